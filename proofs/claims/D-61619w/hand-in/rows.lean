section
-- ===== PART A: goes FIRST, ahead of the names: the tables' words, and 'selects' of the private methods out of them =====
/-- a private method of a class that the tables say can be made, by its rows of tables_1 -/
def lw_okq (q : MethodName × Nat) : Prop := (q.1.cls ≠ "java/lang/invoke/MethodHandle" ∧ q.1.cls ≠ "java/lang/invoke/VarHandle") ∧ Cond.instantiable q.1.cls q.2 ∈ tables_1 ∧ Cond.privateMethod q.1 ∈ tables_1 ∧ Cond.instanceMethod q.1 ∈ tables_1
set_option maxRecDepth 100000
theorem lw_t1 {w : Cond} (h : w ∈ tables_1_1) : w ∈ tables_1 := List.mem_append_left _ h
theorem lw_t2 {w : Cond} (h : w ∈ tables_1_2) : w ∈ tables_1 := List.mem_append_right _ h
theorem lw_p0 : lw_okq (⟨"VersionTree", "ownRoot", "()V"⟩, 11) := ⟨⟨by decide +kernel, by decide +kernel⟩, lw_t1 (List.mem_of_getElem? (i := 4) rfl), lw_t1 (List.mem_of_getElem? (i := 52) rfl), lw_t1 (List.mem_of_getElem? (i := 53) rfl)⟩
theorem lw_p1 : lw_okq (⟨"VersionTree", "freshRoot", "()I"⟩, 11) := ⟨⟨by decide +kernel, by decide +kernel⟩, lw_t1 (List.mem_of_getElem? (i := 4) rfl), lw_t1 (List.mem_of_getElem? (i := 56) rfl), lw_t1 (List.mem_of_getElem? (i := 57) rfl)⟩
theorem lw_p2 : lw_okq (⟨"VersionTree", "release", "(I)V"⟩, 11) := ⟨⟨by decide +kernel, by decide +kernel⟩, lw_t1 (List.mem_of_getElem? (i := 4) rfl), lw_t1 (List.mem_of_getElem? (i := 60) rfl), lw_t1 (List.mem_of_getElem? (i := 61) rfl)⟩
theorem lw_p3 : lw_okq (⟨"VersionTree", "placeOf", "(II)I"⟩, 11) := ⟨⟨by decide +kernel, by decide +kernel⟩, lw_t1 (List.mem_of_getElem? (i := 4) rfl), lw_t1 (List.mem_of_getElem? (i := 64) rfl), lw_t1 (List.mem_of_getElem? (i := 65) rfl)⟩
theorem lw_p4 : lw_okq (⟨"VersionTree", "freshLeaf", "()I"⟩, 11) := ⟨⟨by decide +kernel, by decide +kernel⟩, lw_t1 (List.mem_of_getElem? (i := 4) rfl), lw_t1 (List.mem_of_getElem? (i := 68) rfl), lw_t1 (List.mem_of_getElem? (i := 69) rfl)⟩
theorem lw_p5 : lw_okq (⟨"VersionTree", "insertLeaf", "(II)V"⟩, 11) := ⟨⟨by decide +kernel, by decide +kernel⟩, lw_t1 (List.mem_of_getElem? (i := 4) rfl), lw_t1 (List.mem_of_getElem? (i := 72) rfl), lw_t1 (List.mem_of_getElem? (i := 73) rfl)⟩
theorem lw_p6 : lw_okq (⟨"VersionTree", "ownLeaf", "(I)I"⟩, 11) := ⟨⟨by decide +kernel, by decide +kernel⟩, lw_t1 (List.mem_of_getElem? (i := 4) rfl), lw_t1 (List.mem_of_getElem? (i := 76) rfl), lw_t1 (List.mem_of_getElem? (i := 77) rfl)⟩
theorem lw_p7 : lw_okq (⟨"VersionTree", "copyEntry", "(IIII)V"⟩, 11) := ⟨⟨by decide +kernel, by decide +kernel⟩, lw_t1 (List.mem_of_getElem? (i := 4) rfl), lw_t1 (List.mem_of_getElem? (i := 80) rfl), lw_t1 (List.mem_of_getElem? (i := 81) rfl)⟩
theorem lw_p8 : lw_okq (⟨"VersionTree", "below", "(II)I"⟩, 11) := ⟨⟨by decide +kernel, by decide +kernel⟩, lw_t1 (List.mem_of_getElem? (i := 4) rfl), lw_t1 (List.mem_of_getElem? (i := 84) rfl), lw_t1 (List.mem_of_getElem? (i := 85) rfl)⟩
theorem lw_p9 : lw_okq (⟨"VersionTree", "split", "(II)V"⟩, 11) := ⟨⟨by decide +kernel, by decide +kernel⟩, lw_t1 (List.mem_of_getElem? (i := 4) rfl), lw_t1 (List.mem_of_getElem? (i := 88) rfl), lw_t1 (List.mem_of_getElem? (i := 89) rfl)⟩
theorem lw_p10 : lw_okq (⟨"VersionTree", "cellOf", "(II)I"⟩, 11) := ⟨⟨by decide +kernel, by decide +kernel⟩, lw_t1 (List.mem_of_getElem? (i := 4) rfl), lw_t1 (List.mem_of_getElem? (i := 96) rfl), lw_t1 (List.mem_of_getElem? (i := 97) rfl)⟩
theorem lw_p11 : lw_okq (⟨"VersionTree", "fill", "(I)V"⟩, 11) := ⟨⟨by decide +kernel, by decide +kernel⟩, lw_t1 (List.mem_of_getElem? (i := 4) rfl), lw_t1 (List.mem_of_getElem? (i := 100) rfl), lw_t1 (List.mem_of_getElem? (i := 101) rfl)⟩
theorem lw_p12 : lw_okq (⟨"VersionTree", "dropLeaf", "(I)V"⟩, 11) := ⟨⟨by decide +kernel, by decide +kernel⟩, lw_t1 (List.mem_of_getElem? (i := 4) rfl), lw_t1 (List.mem_of_getElem? (i := 104) rfl), lw_t1 (List.mem_of_getElem? (i := 105) rfl)⟩
theorem lw_p13 : lw_okq (⟨"VersionTree", "isKept", "(I)Z"⟩, 11) := ⟨⟨by decide +kernel, by decide +kernel⟩, lw_t1 (List.mem_of_getElem? (i := 4) rfl), lw_t1 (List.mem_of_getElem? (i := 116) rfl), lw_t1 (List.mem_of_getElem? (i := 117) rfl)⟩
theorem lw_p14 : lw_okq (⟨"VersionTree", "rootOf", "(I)I"⟩, 11) := ⟨⟨by decide +kernel, by decide +kernel⟩, lw_t1 (List.mem_of_getElem? (i := 4) rfl), lw_t1 (List.mem_of_getElem? (i := 128) rfl), lw_t1 (List.mem_of_getElem? (i := 129) rfl)⟩
theorem lw_p15 : lw_okq (⟨"VersionTree", "missing", "(II)I"⟩, 11) := ⟨⟨by decide +kernel, by decide +kernel⟩, lw_t1 (List.mem_of_getElem? (i := 4) rfl), lw_t1 (List.mem_of_getElem? (i := 166) rfl), lw_t1 (List.mem_of_getElem? (i := 167) rfl)⟩
def lw_privs_1 : List (MethodName × Nat) := [(⟨"VersionTree", "ownRoot", "()V"⟩, 11), (⟨"VersionTree", "freshRoot", "()I"⟩, 11), (⟨"VersionTree", "release", "(I)V"⟩, 11), (⟨"VersionTree", "placeOf", "(II)I"⟩, 11), (⟨"VersionTree", "freshLeaf", "()I"⟩, 11), (⟨"VersionTree", "insertLeaf", "(II)V"⟩, 11), (⟨"VersionTree", "ownLeaf", "(I)I"⟩, 11), (⟨"VersionTree", "copyEntry", "(IIII)V"⟩, 11), (⟨"VersionTree", "below", "(II)I"⟩, 11), (⟨"VersionTree", "split", "(II)V"⟩, 11), (⟨"VersionTree", "cellOf", "(II)I"⟩, 11), (⟨"VersionTree", "fill", "(I)V"⟩, 11), (⟨"VersionTree", "dropLeaf", "(I)V"⟩, 11), (⟨"VersionTree", "isKept", "(I)Z"⟩, 11), (⟨"VersionTree", "rootOf", "(I)I"⟩, 11), (⟨"VersionTree", "missing", "(II)I"⟩, 11)]
theorem lw_r1 : ∀ q ∈ lw_privs_1, lw_okq q := List.forall_mem_cons.mpr ⟨lw_p0, List.forall_mem_cons.mpr ⟨lw_p1, List.forall_mem_cons.mpr ⟨lw_p2, List.forall_mem_cons.mpr ⟨lw_p3, List.forall_mem_cons.mpr ⟨lw_p4, List.forall_mem_cons.mpr ⟨lw_p5, List.forall_mem_cons.mpr ⟨lw_p6, List.forall_mem_cons.mpr ⟨lw_p7, List.forall_mem_cons.mpr ⟨lw_p8, List.forall_mem_cons.mpr ⟨lw_p9, List.forall_mem_cons.mpr ⟨lw_p10, List.forall_mem_cons.mpr ⟨lw_p11, List.forall_mem_cons.mpr ⟨lw_p12, List.forall_mem_cons.mpr ⟨lw_p13, List.forall_mem_cons.mpr ⟨lw_p14, List.forall_mem_cons.mpr ⟨lw_p15, fun _ h => absurd h List.not_mem_nil⟩⟩⟩⟩⟩⟩⟩⟩⟩⟩⟩⟩⟩⟩⟩⟩
theorem lw_p16 : lw_okq (⟨"VersionTree", "hasLeaf", "(II)Z"⟩, 11) := ⟨⟨by decide +kernel, by decide +kernel⟩, lw_t1 (List.mem_of_getElem? (i := 4) rfl), lw_t1 (List.mem_of_getElem? (i := 170) rfl), lw_t1 (List.mem_of_getElem? (i := 171) rfl)⟩
theorem lw_p17 : lw_okq (⟨"VersionTree", "missingOf", "(II)I"⟩, 11) := ⟨⟨by decide +kernel, by decide +kernel⟩, lw_t1 (List.mem_of_getElem? (i := 4) rfl), lw_t1 (List.mem_of_getElem? (i := 174) rfl), lw_t1 (List.mem_of_getElem? (i := 175) rfl)⟩
theorem lw_p18 : lw_okq (⟨"VersionTreeModel", "in", "(II)Z"⟩, 4) := ⟨⟨by decide +kernel, by decide +kernel⟩, lw_t1 (List.mem_of_getElem? (i := 182) rfl), lw_t1 (List.mem_of_getElem? (i := 209) rfl), lw_t1 (List.mem_of_getElem? (i := 210) rfl)⟩
theorem lw_p19 : lw_okq (⟨"VersionTreeModel", "copy", "(II)V"⟩, 4) := ⟨⟨by decide +kernel, by decide +kernel⟩, lw_t1 (List.mem_of_getElem? (i := 182) rfl), lw_t1 (List.mem_of_getElem? (i := 217) rfl), lw_t1 (List.mem_of_getElem? (i := 218) rfl)⟩
theorem lw_p20 : lw_okq (⟨"VersionTreeModel", "table", "(I)I"⟩, 4) := ⟨⟨by decide +kernel, by decide +kernel⟩, lw_t1 (List.mem_of_getElem? (i := 182) rfl), lw_t1 (List.mem_of_getElem? (i := 225) rfl), lw_t1 (List.mem_of_getElem? (i := 226) rfl)⟩
def lw_privs_2 : List (MethodName × Nat) := [(⟨"VersionTree", "hasLeaf", "(II)Z"⟩, 11), (⟨"VersionTree", "missingOf", "(II)I"⟩, 11), (⟨"VersionTreeModel", "in", "(II)Z"⟩, 4), (⟨"VersionTreeModel", "copy", "(II)V"⟩, 4), (⟨"VersionTreeModel", "table", "(I)I"⟩, 4)]
theorem lw_r2 : ∀ q ∈ lw_privs_2, lw_okq q := List.forall_mem_cons.mpr ⟨lw_p16, List.forall_mem_cons.mpr ⟨lw_p17, List.forall_mem_cons.mpr ⟨lw_p18, List.forall_mem_cons.mpr ⟨lw_p19, List.forall_mem_cons.mpr ⟨lw_p20, fun _ h => absurd h List.not_mem_nil⟩⟩⟩⟩⟩
def lw_privs : List (MethodName × Nat) := lw_privs_1 ++ (lw_privs_2)
def lw_tbl : List Cond := k2_sels lw_privs ++ tables_1
theorem lw_privs_ok : ∀ q ∈ lw_privs, lw_okq q := by
  show ∀ q ∈ lw_privs_1 ++ (lw_privs_2), lw_okq q
  exact List.forall_mem_append.mpr ⟨lw_r1, lw_r2⟩
-- ===== ONE list of words for every method: the tables' words that hold all through a run =====
def lw_all : List Cond := lw_tbl.filter goodWord
/-- a word of the tables by its place: claim/WORDS.tsv -/
theorem lw_w {w : Cond} (i : Nat) (h : lw_tbl[i]? = some w) (g : goodWord w = true) : w ∈ lw_all := List.mem_filter.mpr ⟨List.mem_of_getElem? h, g⟩
theorem lw_all_tbl {w : Cond} (h : w ∈ lw_all) : w ∈ lw_tbl := (List.mem_filter.mp h).1
theorem lw_self : GoodIn lw_all lw_all := fun w h => ⟨h, good_of_word (List.mem_filter.mp h).2⟩
/-- a class's field words, by their places -/
theorem lw_in (ws : List Cond) (ps : List Nat) (hp : ws = ps.filterMap (fun i => lw_tbl[i]?)) (hg : ws.all goodWord = true) : ∀ w ∈ ws, w ∈ lw_all := by
  intro w h
  have h1 := List.all_eq_true.mp hg w h
  rw [hp] at h
  obtain ⟨i, -, hi⟩ := List.mem_filterMap.mp h
  exact lw_w i hi h1
/-- the words of a contract for the method y with code b, L locals, answer r -/
abbrev ws_ (y : MethodName) (b : ByteArray) (L : Nat) (r : Option FieldType) : List Cond := Cond.code y b L r :: lw_all
theorem lw_meth {y : MethodName} {b : ByteArray} {L : Nat} {r : Option FieldType} (h : Cond.code y b L r ∈ lw_all) : GoodIn lw_all (ws_ y b L r) := by
  intro w hw
  rcases List.mem_cons.mp hw with e | e
  · rw [e]
    exact lw_self _ h
  · exact lw_self _ e
theorem lw_app {a c : List Cond} (ha : ∀ w ∈ a, w ∈ lw_all) (hc : GoodIn lw_all c) : GoodIn lw_all (a ++ c) := by
  intro w hw
  rcases List.mem_append.mp hw with e | e
  · exact lw_self w (ha w e)
  · exact hc w e
/-- what a call through an object asks: cwV n hts (lw_V ..) -/
theorem lw_V {own : String} {idx : Nat} {C : String} {y : MethodName} {b : ByteArray} {L : Nat} {r : Option FieldType} (h1 : Cond.methodLink own idx y ∈ lw_all) (h2 : Cond.instanceMethod y ∈ lw_all) (h3 : Cond.selects C y y ∈ lw_all) (h4 : Cond.initialized C ∈ lw_all) (h5 : Cond.code y b L r ∈ lw_all) : GoodIn lw_all (wsV own idx C y (ws_ y b L r)) := by
  refine lw_app ?_ (lw_meth h5)
  intro w hw
  simp only [List.mem_cons, List.not_mem_nil, or_false] at hw
  rcases hw with e | e | e | e
  · rw [e]; exact h1
  · rw [e]; exact h2
  · rw [e]; exact h3
  · rw [e]; exact h4
/-- what a static call asks: va_cwS n hts (lw_S ..) -/
theorem lw_S {own : String} {idx : Nat} {y : MethodName} {b : ByteArray} {L : Nat} {r : Option FieldType} (h1 : Cond.methodLink own idx y ∈ lw_all) (h2 : Cond.static y ∈ lw_all) (h3 : Cond.initialized y.cls ∈ lw_all) (h4 : Cond.code y b L r ∈ lw_all) : GoodIn lw_all (va_wsS own idx y (ws_ y b L r)) := by
  refine lw_app ?_ (lw_meth h4)
  intro w hw
  simp only [List.mem_cons, List.not_mem_nil, or_false] at hw
  rcases hw with e | e | e
  · rw [e]; exact h1
  · rw [e]; exact h2
  · rw [e]; exact h3
/-- the words of a contract for a method WITH HANDLERS (hh: its table) -/
abbrev wsW_ (y : MethodName) (b : ByteArray) (L : Nat) (r : Option FieldType) (hh : List (Nat × Nat × Nat × Nat)) : List Cond := Cond.codeWith y b L r hh :: lw_all
theorem lw_methW {y : MethodName} {b : ByteArray} {L : Nat} {r : Option FieldType} {hh : List (Nat × Nat × Nat × Nat)} (h : Cond.codeWith y b L r hh ∈ lw_all) : GoodIn lw_all (wsW_ y b L r hh) := by
  intro w hw
  rcases List.mem_cons.mp hw with e | e
  · rw [e]
    exact lw_self _ h
  · exact lw_self _ e
/-- any list of words by their places (lw_in), good -/
theorem lw_good {ws : List Cond} (h : ∀ w ∈ ws, w ∈ lw_all) : GoodIn lw_all ws := fun w hw => lw_self w (h w hw)
/-- what a call of a method with handlers asks: vx_cwVW n hts (lw_VW ..), vx_cwSW n hts (lw_SW ..) -/
theorem lw_VW {own : String} {idx : Nat} {C : String} {y : MethodName} {b : ByteArray} {L : Nat} {r : Option FieldType} {hh : List (Nat × Nat × Nat × Nat)} (h1 : Cond.methodLink own idx y ∈ lw_all) (h2 : Cond.instanceMethod y ∈ lw_all) (h3 : Cond.selects C y y ∈ lw_all) (h4 : Cond.initialized C ∈ lw_all) (h5 : Cond.codeWith y b L r hh ∈ lw_all) : GoodIn lw_all (wsV own idx C y (wsW_ y b L r hh)) := by
  refine lw_app ?_ (lw_methW h5)
  intro w hw
  simp only [List.mem_cons, List.not_mem_nil, or_false] at hw
  rcases hw with e | e | e | e
  · rw [e]; exact h1
  · rw [e]; exact h2
  · rw [e]; exact h3
  · rw [e]; exact h4
theorem lw_SW {own : String} {idx : Nat} {y : MethodName} {b : ByteArray} {L : Nat} {r : Option FieldType} {hh : List (Nat × Nat × Nat × Nat)} (h1 : Cond.methodLink own idx y ∈ lw_all) (h2 : Cond.static y ∈ lw_all) (h3 : Cond.initialized y.cls ∈ lw_all) (h4 : Cond.codeWith y b L r hh ∈ lw_all) : GoodIn lw_all (va_wsS own idx y (wsW_ y b L r hh)) := by
  refine lw_app ?_ (lw_methW h4)
  intro w hw
  simp only [List.mem_cons, List.not_mem_nil, or_false] at hw
  rcases hw with e | e | e
  · rw [e]; exact h1
  · rw [e]; exact h2
  · rw [e]; exact h3
/-- a word by its place in its run of the tables -/
theorem lw_at {r : List Cond} (hr : ∀ w ∈ r, w ∈ lw_tbl) {w : Cond} (i : Nat) (h : r[i]? = some w) : w ∈ lw_tbl := hr w (List.mem_of_getElem? h)
theorem lw_g {w : Cond} (h : w ∈ lw_tbl) (g : goodWord w = true) : w ∈ lw_all := List.mem_filter.mpr ⟨h, g⟩
theorem lw_ms : ∀ w ∈ k2_sels lw_privs, w ∈ lw_tbl := fun w h => show w ∈ k2_sels lw_privs ++ tables_1 from List.mem_append_left _ h
theorem lw_m1 : ∀ w ∈ tables_1_1, w ∈ lw_tbl := fun w h => show w ∈ k2_sels lw_privs ++ tables_1 from List.mem_append_right (k2_sels lw_privs) (show w ∈ tables_1 from List.mem_append_left _ h)
theorem lw_m2 : ∀ w ∈ tables_1_2, w ∈ lw_tbl := fun w h => show w ∈ k2_sels lw_privs ++ tables_1 from List.mem_append_right (k2_sels lw_privs) (show w ∈ tables_1 from List.mem_append_right _ h)
theorem qs0 : (Cond.selects "VersionTree" ⟨"VersionTree", "ownRoot", "()V"⟩ ⟨"VersionTree", "ownRoot", "()V"⟩) ∈ lw_all := lw_g (lw_at lw_ms 0 rfl) rfl
theorem qs1 : (Cond.selects "VersionTree" ⟨"VersionTree", "freshRoot", "()I"⟩ ⟨"VersionTree", "freshRoot", "()I"⟩) ∈ lw_all := lw_g (lw_at lw_ms 1 rfl) rfl
theorem qs2 : (Cond.selects "VersionTree" ⟨"VersionTree", "release", "(I)V"⟩ ⟨"VersionTree", "release", "(I)V"⟩) ∈ lw_all := lw_g (lw_at lw_ms 2 rfl) rfl
theorem qs3 : (Cond.selects "VersionTree" ⟨"VersionTree", "placeOf", "(II)I"⟩ ⟨"VersionTree", "placeOf", "(II)I"⟩) ∈ lw_all := lw_g (lw_at lw_ms 3 rfl) rfl
theorem qs4 : (Cond.selects "VersionTree" ⟨"VersionTree", "freshLeaf", "()I"⟩ ⟨"VersionTree", "freshLeaf", "()I"⟩) ∈ lw_all := lw_g (lw_at lw_ms 4 rfl) rfl
theorem qs5 : (Cond.selects "VersionTree" ⟨"VersionTree", "insertLeaf", "(II)V"⟩ ⟨"VersionTree", "insertLeaf", "(II)V"⟩) ∈ lw_all := lw_g (lw_at lw_ms 5 rfl) rfl
theorem qs6 : (Cond.selects "VersionTree" ⟨"VersionTree", "ownLeaf", "(I)I"⟩ ⟨"VersionTree", "ownLeaf", "(I)I"⟩) ∈ lw_all := lw_g (lw_at lw_ms 6 rfl) rfl
theorem qs7 : (Cond.selects "VersionTree" ⟨"VersionTree", "copyEntry", "(IIII)V"⟩ ⟨"VersionTree", "copyEntry", "(IIII)V"⟩) ∈ lw_all := lw_g (lw_at lw_ms 7 rfl) rfl
theorem qs8 : (Cond.selects "VersionTree" ⟨"VersionTree", "below", "(II)I"⟩ ⟨"VersionTree", "below", "(II)I"⟩) ∈ lw_all := lw_g (lw_at lw_ms 8 rfl) rfl
theorem qs9 : (Cond.selects "VersionTree" ⟨"VersionTree", "split", "(II)V"⟩ ⟨"VersionTree", "split", "(II)V"⟩) ∈ lw_all := lw_g (lw_at lw_ms 9 rfl) rfl
theorem qs10 : (Cond.selects "VersionTree" ⟨"VersionTree", "cellOf", "(II)I"⟩ ⟨"VersionTree", "cellOf", "(II)I"⟩) ∈ lw_all := lw_g (lw_at lw_ms 10 rfl) rfl
theorem qs11 : (Cond.selects "VersionTree" ⟨"VersionTree", "fill", "(I)V"⟩ ⟨"VersionTree", "fill", "(I)V"⟩) ∈ lw_all := lw_g (lw_at lw_ms 11 rfl) rfl
theorem qs12 : (Cond.selects "VersionTree" ⟨"VersionTree", "dropLeaf", "(I)V"⟩ ⟨"VersionTree", "dropLeaf", "(I)V"⟩) ∈ lw_all := lw_g (lw_at lw_ms 12 rfl) rfl
theorem qs13 : (Cond.selects "VersionTree" ⟨"VersionTree", "isKept", "(I)Z"⟩ ⟨"VersionTree", "isKept", "(I)Z"⟩) ∈ lw_all := lw_g (lw_at lw_ms 13 rfl) rfl
theorem qs14 : (Cond.selects "VersionTree" ⟨"VersionTree", "rootOf", "(I)I"⟩ ⟨"VersionTree", "rootOf", "(I)I"⟩) ∈ lw_all := lw_g (lw_at lw_ms 14 rfl) rfl
theorem qs15 : (Cond.selects "VersionTree" ⟨"VersionTree", "missing", "(II)I"⟩ ⟨"VersionTree", "missing", "(II)I"⟩) ∈ lw_all := lw_g (lw_at lw_ms 15 rfl) rfl
theorem qs16 : (Cond.selects "VersionTree" ⟨"VersionTree", "hasLeaf", "(II)Z"⟩ ⟨"VersionTree", "hasLeaf", "(II)Z"⟩) ∈ lw_all := lw_g (lw_at lw_ms 16 rfl) rfl
theorem qs17 : (Cond.selects "VersionTree" ⟨"VersionTree", "missingOf", "(II)I"⟩ ⟨"VersionTree", "missingOf", "(II)I"⟩) ∈ lw_all := lw_g (lw_at lw_ms 17 rfl) rfl
theorem qs18 : (Cond.selects "VersionTreeModel" ⟨"VersionTreeModel", "in", "(II)Z"⟩ ⟨"VersionTreeModel", "in", "(II)Z"⟩) ∈ lw_all := lw_g (lw_at lw_ms 18 rfl) rfl
theorem qs19 : (Cond.selects "VersionTreeModel" ⟨"VersionTreeModel", "copy", "(II)V"⟩ ⟨"VersionTreeModel", "copy", "(II)V"⟩) ∈ lw_all := lw_g (lw_at lw_ms 19 rfl) rfl
theorem qs20 : (Cond.selects "VersionTreeModel" ⟨"VersionTreeModel", "table", "(I)I"⟩ ⟨"VersionTreeModel", "table", "(I)I"⟩) ∈ lw_all := lw_g (lw_at lw_ms 20 rfl) rfl
end
section
/-! java/lang/Object -/
set_option maxRecDepth 100000
def RJ0 : String := "java/lang/Object"
abbrev cJ0_init : ByteArray := object_method_1_code
def yJ0_init : MethodName := ⟨RJ0, "<init>", "()V"⟩
theorem q30 : (Jvm.Cond.instanceMethod ({ cls := "java/lang/Object", name := "<init>", desc := "()V" } : Jvm.MethodName)) ∈ lw_all := lw_g (lw_at lw_m1 9 rfl) rfl
theorem q31 : (Jvm.Cond.code ({ cls := "java/lang/Object", name := "<init>", desc := "()V" } : Jvm.MethodName) object_method_1_code (1 : Nat) (Option.none : Option Jvm.ClassFile.FieldType)) ∈ lw_all := lw_g (lw_at lw_m1 10 rfl) rfl

/-! VersionTree -/
def RX0 : String := "VersionTree"
def TX0 : u_T := fun k => match k with
  | 0 => ("VersionTree", "leafUsers", "[B", true)
  | 1 => ("VersionTree", "leafSize", "[B", true)
  | 2 => ("VersionTree", "leafKeys", "[B", true)
  | 3 => ("VersionTree", "leafValues", "[I", true)
  | 4 => ("VersionTree", "rootUsers", "[B", true)
  | 5 => ("VersionTree", "rootSize", "[B", true)
  | 6 => ("VersionTree", "rootLeaves", "[B", true)
  | 7 => ("VersionTree", "working", "I", false)
  | 8 => ("VersionTree", "versionRoots", "[B", true)
  | 9 => ("VersionTree", "firstKept", "I", false)
  | _ => ("VersionTree", "lastKept", "I", false)
def tyX0 : Nat → FieldType := fun k => match k with
  | 0 => .array .byte
  | 1 => .array .byte
  | 2 => .array .byte
  | 3 => .array .int
  | 4 => .array .byte
  | 5 => .array .byte
  | 6 => .array .byte
  | 7 => .int
  | 8 => .array .byte
  | 9 => .int
  | _ => .int
abbrev wsX00 : List Cond := u_ws RX0 TX0 11
theorem nmX0 : ∀ a, a < 11 → ∀ b, b < 11 → a ≠ b → (TX0 a).2.1 ≠ (TX0 b).2.1 := by decide +kernel
theorem tyX0_ok : ∀ k, k < 11 → parseFieldDescriptor (TX0 k).2.2.1 = some (tyX0 k) := by decide +kernel
abbrev cX0_init : ByteArray := prog_1_method_1_code
def yX0_init : MethodName := ⟨RX0, "<init>", "()V"⟩
abbrev cX0_put : ByteArray := prog_1_method_11_code
def yX0_put : MethodName := ⟨RX0, "put", "(II)Z"⟩
abbrev cX0_ownRoot : ByteArray := prog_1_method_5_code
def yX0_ownRoot : MethodName := ⟨RX0, "ownRoot", "()V"⟩
abbrev cX0_freshRoot : ByteArray := prog_1_method_3_code
def yX0_freshRoot : MethodName := ⟨RX0, "freshRoot", "()I"⟩
abbrev cX0_release : ByteArray := prog_1_method_4_code
def yX0_release : MethodName := ⟨RX0, "release", "(I)V"⟩
abbrev cX0_placeOf : ByteArray := prog_1_method_8_code
def yX0_placeOf : MethodName := ⟨RX0, "placeOf", "(II)I"⟩
abbrev cX0_freshLeaf : ByteArray := prog_1_method_2_code
def yX0_freshLeaf : MethodName := ⟨RX0, "freshLeaf", "()I"⟩
abbrev cX0_insertLeaf : ByteArray := prog_1_method_12_code
def yX0_insertLeaf : MethodName := ⟨RX0, "insertLeaf", "(II)V"⟩
abbrev cX0_ownLeaf : ByteArray := prog_1_method_6_code
def yX0_ownLeaf : MethodName := ⟨RX0, "ownLeaf", "(I)I"⟩
abbrev cX0_copyEntry : ByteArray := prog_1_method_7_code
def yX0_copyEntry : MethodName := ⟨RX0, "copyEntry", "(IIII)V"⟩
abbrev cX0_below : ByteArray := prog_1_method_9_code
def yX0_below : MethodName := ⟨RX0, "below", "(II)I"⟩
abbrev cX0_split : ByteArray := prog_1_method_14_code
def yX0_split : MethodName := ⟨RX0, "split", "(II)V"⟩
abbrev cX0_remove : ByteArray := prog_1_method_15_code
def yX0_remove : MethodName := ⟨RX0, "remove", "(I)Z"⟩
abbrev cX0_cellOf : ByteArray := prog_1_method_10_code
def yX0_cellOf : MethodName := ⟨RX0, "cellOf", "(II)I"⟩
abbrev cX0_fill : ByteArray := prog_1_method_16_code
def yX0_fill : MethodName := ⟨RX0, "fill", "(I)V"⟩
abbrev cX0_dropLeaf : ByteArray := prog_1_method_13_code
def yX0_dropLeaf : MethodName := ⟨RX0, "dropLeaf", "(I)V"⟩
abbrev cX0_save : ByteArray := prog_1_method_17_code
def yX0_save : MethodName := ⟨RX0, "save", "()I"⟩
abbrev cX0_goBack : ByteArray := prog_1_method_19_code
def yX0_goBack : MethodName := ⟨RX0, "goBack", "(I)Z"⟩
abbrev cX0_isKept : ByteArray := prog_1_method_18_code
def yX0_isKept : MethodName := ⟨RX0, "isKept", "(I)Z"⟩
abbrev cX0_kept : ByteArray := prog_1_method_20_code
def yX0_kept : MethodName := ⟨RX0, "kept", "()I"⟩
abbrev cX0_has : ByteArray := prog_1_method_22_code
def yX0_has : MethodName := ⟨RX0, "has", "(II)Z"⟩
abbrev cX0_rootOf : ByteArray := prog_1_method_21_code
def yX0_rootOf : MethodName := ⟨RX0, "rootOf", "(I)I"⟩
abbrev cX0_get : ByteArray := prog_1_method_23_code
def yX0_get : MethodName := ⟨RX0, "get", "(II)I"⟩
abbrev cX0_count : ByteArray := prog_1_method_24_code
def yX0_count : MethodName := ⟨RX0, "count", "(I)I"⟩
abbrev cX0_from : ByteArray := prog_1_method_25_code
def yX0_from : MethodName := ⟨RX0, "from", "(II)I"⟩
abbrev cX0_rank : ByteArray := prog_1_method_28_code
def yX0_rank : MethodName := ⟨RX0, "rank", "(II)I"⟩
abbrev cX0_keyAt : ByteArray := prog_1_method_27_code
def yX0_keyAt : MethodName := ⟨RX0, "keyAt", "(II)I"⟩
abbrev cX0_upTo : ByteArray := prog_1_method_26_code
def yX0_upTo : MethodName := ⟨RX0, "upTo", "(II)I"⟩
abbrev cX0_sum : ByteArray := prog_1_method_29_code
def yX0_sum : MethodName := ⟨RX0, "sum", "(III)I"⟩
abbrev cX0_difference : ByteArray := prog_1_method_30_code
def yX0_difference : MethodName := ⟨RX0, "difference", "(II)I"⟩
abbrev cX0_missing : ByteArray := prog_1_method_31_code
def yX0_missing : MethodName := ⟨RX0, "missing", "(II)I"⟩
abbrev cX0_hasLeaf : ByteArray := prog_1_method_32_code
def yX0_hasLeaf : MethodName := ⟨RX0, "hasLeaf", "(II)Z"⟩
abbrev cX0_missingOf : ByteArray := prog_1_method_33_code
def yX0_missingOf : MethodName := ⟨RX0, "missingOf", "(II)I"⟩
abbrev cX0_keys : ByteArray := prog_1_method_34_code
def yX0_keys : MethodName := ⟨RX0, "keys", "(I)I"⟩
theorem q22 : (Jvm.Cond.initialized "VersionTree") ∈ lw_all := lw_g (lw_at lw_m1 1 rfl) rfl
theorem q25 : (Jvm.Cond.instantiable "VersionTree" (11 : Nat)) ∈ lw_all := lw_g (lw_at lw_m1 4 rfl) rfl
theorem q27 : (Jvm.Cond.instanceMethod ({ cls := "VersionTree", name := "<init>", desc := "()V" } : Jvm.MethodName)) ∈ lw_all := lw_g (lw_at lw_m1 6 rfl) rfl
theorem q28 : (Jvm.Cond.code ({ cls := "VersionTree", name := "<init>", desc := "()V" } : Jvm.MethodName) prog_1_method_1_code (1 : Nat) (Option.none : Option Jvm.ClassFile.FieldType)) ∈ lw_all := lw_g (lw_at lw_m1 7 rfl) rfl
theorem q29 : (Jvm.Cond.methodLink "VersionTree" (1 : Nat) ({ cls := "java/lang/Object", name := "<init>", desc := "()V" } : Jvm.MethodName)) ∈ lw_all := lw_g (lw_at lw_m1 8 rfl) rfl
theorem q32 : (Jvm.Cond.fieldLink "VersionTree" (7 : Nat) "VersionTree" "leafUsers" "[B") ∈ lw_all := lw_g (lw_at lw_m1 11 rfl) rfl
theorem q33 : (Jvm.Cond.fieldLink "VersionTree" (13 : Nat) "VersionTree" "leafSize" "[B") ∈ lw_all := lw_g (lw_at lw_m1 12 rfl) rfl
theorem q34 : (Jvm.Cond.fieldLink "VersionTree" (16 : Nat) "VersionTree" "leafKeys" "[B") ∈ lw_all := lw_g (lw_at lw_m1 13 rfl) rfl
theorem q35 : (Jvm.Cond.fieldLink "VersionTree" (19 : Nat) "VersionTree" "leafValues" "[I") ∈ lw_all := lw_g (lw_at lw_m1 14 rfl) rfl
theorem q36 : (Jvm.Cond.fieldLink "VersionTree" (23 : Nat) "VersionTree" "rootUsers" "[B") ∈ lw_all := lw_g (lw_at lw_m1 15 rfl) rfl
theorem q37 : (Jvm.Cond.fieldLink "VersionTree" (26 : Nat) "VersionTree" "rootSize" "[B") ∈ lw_all := lw_g (lw_at lw_m1 16 rfl) rfl
theorem q38 : (Jvm.Cond.fieldLink "VersionTree" (29 : Nat) "VersionTree" "rootLeaves" "[B") ∈ lw_all := lw_g (lw_at lw_m1 17 rfl) rfl
theorem q39 : (Jvm.Cond.fieldLink "VersionTree" (39 : Nat) "VersionTree" "working" "I") ∈ lw_all := lw_g (lw_at lw_m1 18 rfl) rfl
theorem q40 : (Jvm.Cond.fieldLink "VersionTree" (32 : Nat) "VersionTree" "versionRoots" "[B") ∈ lw_all := lw_g (lw_at lw_m1 19 rfl) rfl
theorem q41 : (Jvm.Cond.fieldLink "VersionTree" (35 : Nat) "VersionTree" "firstKept" "I") ∈ lw_all := lw_g (lw_at lw_m1 20 rfl) rfl
theorem q42 : (Jvm.Cond.fieldLink "VersionTree" (87 : Nat) "VersionTree" "lastKept" "I") ∈ lw_all := lw_g (lw_at lw_m1 21 rfl) rfl
theorem q43 : (Jvm.Cond.laysFinal "VersionTree" "VersionTree" "leafUsers" "[B") ∈ lw_all := lw_g (lw_at lw_m1 22 rfl) rfl
theorem q44 : (Jvm.Cond.soleField "VersionTree" "leafUsers") ∈ lw_all := lw_g (lw_at lw_m1 23 rfl) rfl
theorem q45 : (Jvm.Cond.laysFinal "VersionTree" "VersionTree" "leafSize" "[B") ∈ lw_all := lw_g (lw_at lw_m1 24 rfl) rfl
theorem q46 : (Jvm.Cond.soleField "VersionTree" "leafSize") ∈ lw_all := lw_g (lw_at lw_m1 25 rfl) rfl
theorem q47 : (Jvm.Cond.laysFinal "VersionTree" "VersionTree" "leafKeys" "[B") ∈ lw_all := lw_g (lw_at lw_m1 26 rfl) rfl
theorem q48 : (Jvm.Cond.soleField "VersionTree" "leafKeys") ∈ lw_all := lw_g (lw_at lw_m1 27 rfl) rfl
theorem q49 : (Jvm.Cond.laysFinal "VersionTree" "VersionTree" "leafValues" "[I") ∈ lw_all := lw_g (lw_at lw_m1 28 rfl) rfl
theorem q50 : (Jvm.Cond.soleField "VersionTree" "leafValues") ∈ lw_all := lw_g (lw_at lw_m1 29 rfl) rfl
theorem q51 : (Jvm.Cond.laysFinal "VersionTree" "VersionTree" "rootUsers" "[B") ∈ lw_all := lw_g (lw_at lw_m1 30 rfl) rfl
theorem q52 : (Jvm.Cond.soleField "VersionTree" "rootUsers") ∈ lw_all := lw_g (lw_at lw_m1 31 rfl) rfl
theorem q53 : (Jvm.Cond.laysFinal "VersionTree" "VersionTree" "rootSize" "[B") ∈ lw_all := lw_g (lw_at lw_m1 32 rfl) rfl
theorem q54 : (Jvm.Cond.soleField "VersionTree" "rootSize") ∈ lw_all := lw_g (lw_at lw_m1 33 rfl) rfl
theorem q55 : (Jvm.Cond.laysFinal "VersionTree" "VersionTree" "rootLeaves" "[B") ∈ lw_all := lw_g (lw_at lw_m1 34 rfl) rfl
theorem q56 : (Jvm.Cond.soleField "VersionTree" "rootLeaves") ∈ lw_all := lw_g (lw_at lw_m1 35 rfl) rfl
theorem q57 : (Jvm.Cond.lays "VersionTree" "VersionTree" "working" "I") ∈ lw_all := lw_g (lw_at lw_m1 36 rfl) rfl
theorem q58 : (Jvm.Cond.soleField "VersionTree" "working") ∈ lw_all := lw_g (lw_at lw_m1 37 rfl) rfl
theorem q59 : (Jvm.Cond.laysFinal "VersionTree" "VersionTree" "versionRoots" "[B") ∈ lw_all := lw_g (lw_at lw_m1 38 rfl) rfl
theorem q60 : (Jvm.Cond.soleField "VersionTree" "versionRoots") ∈ lw_all := lw_g (lw_at lw_m1 39 rfl) rfl
theorem q61 : (Jvm.Cond.lays "VersionTree" "VersionTree" "firstKept" "I") ∈ lw_all := lw_g (lw_at lw_m1 40 rfl) rfl
theorem q62 : (Jvm.Cond.soleField "VersionTree" "firstKept") ∈ lw_all := lw_g (lw_at lw_m1 41 rfl) rfl
theorem q63 : (Jvm.Cond.lays "VersionTree" "VersionTree" "lastKept" "I") ∈ lw_all := lw_g (lw_at lw_m1 42 rfl) rfl
theorem q64 : (Jvm.Cond.soleField "VersionTree" "lastKept") ∈ lw_all := lw_g (lw_at lw_m1 43 rfl) rfl
theorem q65 : (Jvm.Cond.superclass "VersionTree" "java/lang/Object") ∈ lw_all := lw_g (lw_at lw_m1 44 rfl) rfl
theorem q69 : (Jvm.Cond.instanceMethod ({ cls := "VersionTree", name := "put", desc := "(II)Z" } : Jvm.MethodName)) ∈ lw_all := lw_g (lw_at lw_m1 48 rfl) rfl
theorem q70 : (Jvm.Cond.selects "VersionTree" ({ cls := "VersionTree", name := "put", desc := "(II)Z" } : Jvm.MethodName) ({ cls := "VersionTree", name := "put", desc := "(II)Z" } : Jvm.MethodName)) ∈ lw_all := lw_g (lw_at lw_m1 49 rfl) rfl
theorem q71 : (Jvm.Cond.code ({ cls := "VersionTree", name := "put", desc := "(II)Z" } : Jvm.MethodName) prog_1_method_11_code (7 : Nat) (Option.some Jvm.ClassFile.FieldType.boolean)) ∈ lw_all := lw_g (lw_at lw_m1 50 rfl) rfl
theorem q72 : (Jvm.Cond.methodLink "VersionTree" (64 : Nat) ({ cls := "VersionTree", name := "ownRoot", desc := "()V" } : Jvm.MethodName)) ∈ lw_all := lw_g (lw_at lw_m1 51 rfl) rfl
theorem q73 : (Jvm.Cond.privateMethod ({ cls := "VersionTree", name := "ownRoot", desc := "()V" } : Jvm.MethodName)) ∈ lw_tbl := lw_at lw_m1 52 rfl
theorem q74 : (Jvm.Cond.instanceMethod ({ cls := "VersionTree", name := "ownRoot", desc := "()V" } : Jvm.MethodName)) ∈ lw_all := lw_g (lw_at lw_m1 53 rfl) rfl
theorem q75 : (Jvm.Cond.code ({ cls := "VersionTree", name := "ownRoot", desc := "()V" } : Jvm.MethodName) prog_1_method_5_code (5 : Nat) (Option.none : Option Jvm.ClassFile.FieldType)) ∈ lw_all := lw_g (lw_at lw_m1 54 rfl) rfl
theorem q76 : (Jvm.Cond.methodLink "VersionTree" (42 : Nat) ({ cls := "VersionTree", name := "freshRoot", desc := "()I" } : Jvm.MethodName)) ∈ lw_all := lw_g (lw_at lw_m1 55 rfl) rfl
theorem q77 : (Jvm.Cond.privateMethod ({ cls := "VersionTree", name := "freshRoot", desc := "()I" } : Jvm.MethodName)) ∈ lw_tbl := lw_at lw_m1 56 rfl
theorem q78 : (Jvm.Cond.instanceMethod ({ cls := "VersionTree", name := "freshRoot", desc := "()I" } : Jvm.MethodName)) ∈ lw_all := lw_g (lw_at lw_m1 57 rfl) rfl
theorem q79 : (Jvm.Cond.code ({ cls := "VersionTree", name := "freshRoot", desc := "()I" } : Jvm.MethodName) prog_1_method_3_code (2 : Nat) (Option.some Jvm.ClassFile.FieldType.int)) ∈ lw_all := lw_g (lw_at lw_m1 58 rfl) rfl
theorem q80 : (Jvm.Cond.methodLink "VersionTree" (46 : Nat) ({ cls := "VersionTree", name := "release", desc := "(I)V" } : Jvm.MethodName)) ∈ lw_all := lw_g (lw_at lw_m1 59 rfl) rfl
theorem q81 : (Jvm.Cond.privateMethod ({ cls := "VersionTree", name := "release", desc := "(I)V" } : Jvm.MethodName)) ∈ lw_tbl := lw_at lw_m1 60 rfl
theorem q82 : (Jvm.Cond.instanceMethod ({ cls := "VersionTree", name := "release", desc := "(I)V" } : Jvm.MethodName)) ∈ lw_all := lw_g (lw_at lw_m1 61 rfl) rfl
theorem q83 : (Jvm.Cond.code ({ cls := "VersionTree", name := "release", desc := "(I)V" } : Jvm.MethodName) prog_1_method_4_code (3 : Nat) (Option.none : Option Jvm.ClassFile.FieldType)) ∈ lw_all := lw_g (lw_at lw_m1 62 rfl) rfl
theorem q84 : (Jvm.Cond.methodLink "VersionTree" (57 : Nat) ({ cls := "VersionTree", name := "placeOf", desc := "(II)I" } : Jvm.MethodName)) ∈ lw_all := lw_g (lw_at lw_m1 63 rfl) rfl
theorem q85 : (Jvm.Cond.privateMethod ({ cls := "VersionTree", name := "placeOf", desc := "(II)I" } : Jvm.MethodName)) ∈ lw_tbl := lw_at lw_m1 64 rfl
theorem q86 : (Jvm.Cond.instanceMethod ({ cls := "VersionTree", name := "placeOf", desc := "(II)I" } : Jvm.MethodName)) ∈ lw_all := lw_g (lw_at lw_m1 65 rfl) rfl
theorem q87 : (Jvm.Cond.code ({ cls := "VersionTree", name := "placeOf", desc := "(II)I" } : Jvm.MethodName) prog_1_method_8_code (6 : Nat) (Option.some Jvm.ClassFile.FieldType.int)) ∈ lw_all := lw_g (lw_at lw_m1 66 rfl) rfl
theorem q88 : (Jvm.Cond.methodLink "VersionTree" (50 : Nat) ({ cls := "VersionTree", name := "freshLeaf", desc := "()I" } : Jvm.MethodName)) ∈ lw_all := lw_g (lw_at lw_m1 67 rfl) rfl
theorem q89 : (Jvm.Cond.privateMethod ({ cls := "VersionTree", name := "freshLeaf", desc := "()I" } : Jvm.MethodName)) ∈ lw_tbl := lw_at lw_m1 68 rfl
theorem q90 : (Jvm.Cond.instanceMethod ({ cls := "VersionTree", name := "freshLeaf", desc := "()I" } : Jvm.MethodName)) ∈ lw_all := lw_g (lw_at lw_m1 69 rfl) rfl
theorem q91 : (Jvm.Cond.code ({ cls := "VersionTree", name := "freshLeaf", desc := "()I" } : Jvm.MethodName) prog_1_method_2_code (2 : Nat) (Option.some Jvm.ClassFile.FieldType.int)) ∈ lw_all := lw_g (lw_at lw_m1 70 rfl) rfl
theorem q92 : (Jvm.Cond.methodLink "VersionTree" (67 : Nat) ({ cls := "VersionTree", name := "insertLeaf", desc := "(II)V" } : Jvm.MethodName)) ∈ lw_all := lw_g (lw_at lw_m1 71 rfl) rfl
theorem q93 : (Jvm.Cond.privateMethod ({ cls := "VersionTree", name := "insertLeaf", desc := "(II)V" } : Jvm.MethodName)) ∈ lw_tbl := lw_at lw_m1 72 rfl
theorem q94 : (Jvm.Cond.instanceMethod ({ cls := "VersionTree", name := "insertLeaf", desc := "(II)V" } : Jvm.MethodName)) ∈ lw_all := lw_g (lw_at lw_m1 73 rfl) rfl
theorem q95 : (Jvm.Cond.code ({ cls := "VersionTree", name := "insertLeaf", desc := "(II)V" } : Jvm.MethodName) prog_1_method_12_code (4 : Nat) (Option.none : Option Jvm.ClassFile.FieldType)) ∈ lw_all := lw_g (lw_at lw_m1 74 rfl) rfl
theorem q96 : (Jvm.Cond.methodLink "VersionTree" (71 : Nat) ({ cls := "VersionTree", name := "ownLeaf", desc := "(I)I" } : Jvm.MethodName)) ∈ lw_all := lw_g (lw_at lw_m1 75 rfl) rfl
theorem q97 : (Jvm.Cond.privateMethod ({ cls := "VersionTree", name := "ownLeaf", desc := "(I)I" } : Jvm.MethodName)) ∈ lw_tbl := lw_at lw_m1 76 rfl
theorem q98 : (Jvm.Cond.instanceMethod ({ cls := "VersionTree", name := "ownLeaf", desc := "(I)I" } : Jvm.MethodName)) ∈ lw_all := lw_g (lw_at lw_m1 77 rfl) rfl
theorem q99 : (Jvm.Cond.code ({ cls := "VersionTree", name := "ownLeaf", desc := "(I)I" } : Jvm.MethodName) prog_1_method_6_code (5 : Nat) (Option.some Jvm.ClassFile.FieldType.int)) ∈ lw_all := lw_g (lw_at lw_m1 78 rfl) rfl
theorem q100 : (Jvm.Cond.methodLink "VersionTree" (53 : Nat) ({ cls := "VersionTree", name := "copyEntry", desc := "(IIII)V" } : Jvm.MethodName)) ∈ lw_all := lw_g (lw_at lw_m1 79 rfl) rfl
theorem q101 : (Jvm.Cond.privateMethod ({ cls := "VersionTree", name := "copyEntry", desc := "(IIII)V" } : Jvm.MethodName)) ∈ lw_tbl := lw_at lw_m1 80 rfl
theorem q102 : (Jvm.Cond.instanceMethod ({ cls := "VersionTree", name := "copyEntry", desc := "(IIII)V" } : Jvm.MethodName)) ∈ lw_all := lw_g (lw_at lw_m1 81 rfl) rfl
theorem q103 : (Jvm.Cond.code ({ cls := "VersionTree", name := "copyEntry", desc := "(IIII)V" } : Jvm.MethodName) prog_1_method_7_code (5 : Nat) (Option.none : Option Jvm.ClassFile.FieldType)) ∈ lw_all := lw_g (lw_at lw_m1 82 rfl) rfl
theorem q104 : (Jvm.Cond.methodLink "VersionTree" (61 : Nat) ({ cls := "VersionTree", name := "below", desc := "(II)I" } : Jvm.MethodName)) ∈ lw_all := lw_g (lw_at lw_m1 83 rfl) rfl
theorem q105 : (Jvm.Cond.privateMethod ({ cls := "VersionTree", name := "below", desc := "(II)I" } : Jvm.MethodName)) ∈ lw_tbl := lw_at lw_m1 84 rfl
theorem q106 : (Jvm.Cond.instanceMethod ({ cls := "VersionTree", name := "below", desc := "(II)I" } : Jvm.MethodName)) ∈ lw_all := lw_g (lw_at lw_m1 85 rfl) rfl
theorem q107 : (Jvm.Cond.code ({ cls := "VersionTree", name := "below", desc := "(II)I" } : Jvm.MethodName) prog_1_method_9_code (4 : Nat) (Option.some Jvm.ClassFile.FieldType.int)) ∈ lw_all := lw_g (lw_at lw_m1 86 rfl) rfl
theorem q108 : (Jvm.Cond.methodLink "VersionTree" (75 : Nat) ({ cls := "VersionTree", name := "split", desc := "(II)V" } : Jvm.MethodName)) ∈ lw_all := lw_g (lw_at lw_m1 87 rfl) rfl
theorem q109 : (Jvm.Cond.privateMethod ({ cls := "VersionTree", name := "split", desc := "(II)V" } : Jvm.MethodName)) ∈ lw_tbl := lw_at lw_m1 88 rfl
theorem q110 : (Jvm.Cond.instanceMethod ({ cls := "VersionTree", name := "split", desc := "(II)V" } : Jvm.MethodName)) ∈ lw_all := lw_g (lw_at lw_m1 89 rfl) rfl
theorem q111 : (Jvm.Cond.code ({ cls := "VersionTree", name := "split", desc := "(II)V" } : Jvm.MethodName) prog_1_method_14_code (4 : Nat) (Option.none : Option Jvm.ClassFile.FieldType)) ∈ lw_all := lw_g (lw_at lw_m1 90 rfl) rfl
theorem q113 : (Jvm.Cond.instanceMethod ({ cls := "VersionTree", name := "remove", desc := "(I)Z" } : Jvm.MethodName)) ∈ lw_all := lw_g (lw_at lw_m1 92 rfl) rfl
theorem q114 : (Jvm.Cond.selects "VersionTree" ({ cls := "VersionTree", name := "remove", desc := "(I)Z" } : Jvm.MethodName) ({ cls := "VersionTree", name := "remove", desc := "(I)Z" } : Jvm.MethodName)) ∈ lw_all := lw_g (lw_at lw_m1 93 rfl) rfl
theorem q115 : (Jvm.Cond.code ({ cls := "VersionTree", name := "remove", desc := "(I)Z" } : Jvm.MethodName) prog_1_method_15_code (6 : Nat) (Option.some Jvm.ClassFile.FieldType.boolean)) ∈ lw_all := lw_g (lw_at lw_m1 94 rfl) rfl
theorem q116 : (Jvm.Cond.methodLink "VersionTree" (78 : Nat) ({ cls := "VersionTree", name := "cellOf", desc := "(II)I" } : Jvm.MethodName)) ∈ lw_all := lw_g (lw_at lw_m1 95 rfl) rfl
theorem q117 : (Jvm.Cond.privateMethod ({ cls := "VersionTree", name := "cellOf", desc := "(II)I" } : Jvm.MethodName)) ∈ lw_tbl := lw_at lw_m1 96 rfl
theorem q118 : (Jvm.Cond.instanceMethod ({ cls := "VersionTree", name := "cellOf", desc := "(II)I" } : Jvm.MethodName)) ∈ lw_all := lw_g (lw_at lw_m1 97 rfl) rfl
theorem q119 : (Jvm.Cond.code ({ cls := "VersionTree", name := "cellOf", desc := "(II)I" } : Jvm.MethodName) prog_1_method_10_code (7 : Nat) (Option.some Jvm.ClassFile.FieldType.int)) ∈ lw_all := lw_g (lw_at lw_m1 98 rfl) rfl
theorem q120 : (Jvm.Cond.methodLink "VersionTree" (81 : Nat) ({ cls := "VersionTree", name := "fill", desc := "(I)V" } : Jvm.MethodName)) ∈ lw_all := lw_g (lw_at lw_m1 99 rfl) rfl
theorem q121 : (Jvm.Cond.privateMethod ({ cls := "VersionTree", name := "fill", desc := "(I)V" } : Jvm.MethodName)) ∈ lw_tbl := lw_at lw_m1 100 rfl
theorem q122 : (Jvm.Cond.instanceMethod ({ cls := "VersionTree", name := "fill", desc := "(I)V" } : Jvm.MethodName)) ∈ lw_all := lw_g (lw_at lw_m1 101 rfl) rfl
theorem q123 : (Jvm.Cond.code ({ cls := "VersionTree", name := "fill", desc := "(I)V" } : Jvm.MethodName) prog_1_method_16_code (6 : Nat) (Option.none : Option Jvm.ClassFile.FieldType)) ∈ lw_all := lw_g (lw_at lw_m1 102 rfl) rfl
theorem q124 : (Jvm.Cond.methodLink "VersionTree" (84 : Nat) ({ cls := "VersionTree", name := "dropLeaf", desc := "(I)V" } : Jvm.MethodName)) ∈ lw_all := lw_g (lw_at lw_m1 103 rfl) rfl
theorem q125 : (Jvm.Cond.privateMethod ({ cls := "VersionTree", name := "dropLeaf", desc := "(I)V" } : Jvm.MethodName)) ∈ lw_tbl := lw_at lw_m1 104 rfl
theorem q126 : (Jvm.Cond.instanceMethod ({ cls := "VersionTree", name := "dropLeaf", desc := "(I)V" } : Jvm.MethodName)) ∈ lw_all := lw_g (lw_at lw_m1 105 rfl) rfl
theorem q127 : (Jvm.Cond.code ({ cls := "VersionTree", name := "dropLeaf", desc := "(I)V" } : Jvm.MethodName) prog_1_method_13_code (3 : Nat) (Option.none : Option Jvm.ClassFile.FieldType)) ∈ lw_all := lw_g (lw_at lw_m1 106 rfl) rfl
theorem q129 : (Jvm.Cond.instanceMethod ({ cls := "VersionTree", name := "save", desc := "()I" } : Jvm.MethodName)) ∈ lw_all := lw_g (lw_at lw_m1 108 rfl) rfl
theorem q130 : (Jvm.Cond.selects "VersionTree" ({ cls := "VersionTree", name := "save", desc := "()I" } : Jvm.MethodName) ({ cls := "VersionTree", name := "save", desc := "()I" } : Jvm.MethodName)) ∈ lw_all := lw_g (lw_at lw_m1 109 rfl) rfl
theorem q131 : (Jvm.Cond.code ({ cls := "VersionTree", name := "save", desc := "()I" } : Jvm.MethodName) prog_1_method_17_code (1 : Nat) (Option.some Jvm.ClassFile.FieldType.int)) ∈ lw_all := lw_g (lw_at lw_m1 110 rfl) rfl
theorem q133 : (Jvm.Cond.instanceMethod ({ cls := "VersionTree", name := "goBack", desc := "(I)Z" } : Jvm.MethodName)) ∈ lw_all := lw_g (lw_at lw_m1 112 rfl) rfl
theorem q134 : (Jvm.Cond.selects "VersionTree" ({ cls := "VersionTree", name := "goBack", desc := "(I)Z" } : Jvm.MethodName) ({ cls := "VersionTree", name := "goBack", desc := "(I)Z" } : Jvm.MethodName)) ∈ lw_all := lw_g (lw_at lw_m1 113 rfl) rfl
theorem q135 : (Jvm.Cond.code ({ cls := "VersionTree", name := "goBack", desc := "(I)Z" } : Jvm.MethodName) prog_1_method_19_code (3 : Nat) (Option.some Jvm.ClassFile.FieldType.boolean)) ∈ lw_all := lw_g (lw_at lw_m1 114 rfl) rfl
theorem q136 : (Jvm.Cond.methodLink "VersionTree" (90 : Nat) ({ cls := "VersionTree", name := "isKept", desc := "(I)Z" } : Jvm.MethodName)) ∈ lw_all := lw_g (lw_at lw_m1 115 rfl) rfl
theorem q137 : (Jvm.Cond.privateMethod ({ cls := "VersionTree", name := "isKept", desc := "(I)Z" } : Jvm.MethodName)) ∈ lw_tbl := lw_at lw_m1 116 rfl
theorem q138 : (Jvm.Cond.instanceMethod ({ cls := "VersionTree", name := "isKept", desc := "(I)Z" } : Jvm.MethodName)) ∈ lw_all := lw_g (lw_at lw_m1 117 rfl) rfl
theorem q139 : (Jvm.Cond.code ({ cls := "VersionTree", name := "isKept", desc := "(I)Z" } : Jvm.MethodName) prog_1_method_18_code (2 : Nat) (Option.some Jvm.ClassFile.FieldType.boolean)) ∈ lw_all := lw_g (lw_at lw_m1 118 rfl) rfl
theorem q141 : (Jvm.Cond.instanceMethod ({ cls := "VersionTree", name := "kept", desc := "()I" } : Jvm.MethodName)) ∈ lw_all := lw_g (lw_at lw_m1 120 rfl) rfl
theorem q142 : (Jvm.Cond.selects "VersionTree" ({ cls := "VersionTree", name := "kept", desc := "()I" } : Jvm.MethodName) ({ cls := "VersionTree", name := "kept", desc := "()I" } : Jvm.MethodName)) ∈ lw_all := lw_g (lw_at lw_m1 121 rfl) rfl
theorem q143 : (Jvm.Cond.code ({ cls := "VersionTree", name := "kept", desc := "()I" } : Jvm.MethodName) prog_1_method_20_code (1 : Nat) (Option.some Jvm.ClassFile.FieldType.int)) ∈ lw_all := lw_g (lw_at lw_m1 122 rfl) rfl
theorem q145 : (Jvm.Cond.instanceMethod ({ cls := "VersionTree", name := "has", desc := "(II)Z" } : Jvm.MethodName)) ∈ lw_all := lw_g (lw_at lw_m1 124 rfl) rfl
theorem q146 : (Jvm.Cond.selects "VersionTree" ({ cls := "VersionTree", name := "has", desc := "(II)Z" } : Jvm.MethodName) ({ cls := "VersionTree", name := "has", desc := "(II)Z" } : Jvm.MethodName)) ∈ lw_all := lw_g (lw_at lw_m1 125 rfl) rfl
theorem q147 : (Jvm.Cond.code ({ cls := "VersionTree", name := "has", desc := "(II)Z" } : Jvm.MethodName) prog_1_method_22_code (4 : Nat) (Option.some Jvm.ClassFile.FieldType.boolean)) ∈ lw_all := lw_g (lw_at lw_m1 126 rfl) rfl
theorem q148 : (Jvm.Cond.methodLink "VersionTree" (94 : Nat) ({ cls := "VersionTree", name := "rootOf", desc := "(I)I" } : Jvm.MethodName)) ∈ lw_all := lw_g (lw_at lw_m1 127 rfl) rfl
theorem q149 : (Jvm.Cond.privateMethod ({ cls := "VersionTree", name := "rootOf", desc := "(I)I" } : Jvm.MethodName)) ∈ lw_tbl := lw_at lw_m1 128 rfl
theorem q150 : (Jvm.Cond.instanceMethod ({ cls := "VersionTree", name := "rootOf", desc := "(I)I" } : Jvm.MethodName)) ∈ lw_all := lw_g (lw_at lw_m1 129 rfl) rfl
theorem q151 : (Jvm.Cond.code ({ cls := "VersionTree", name := "rootOf", desc := "(I)I" } : Jvm.MethodName) prog_1_method_21_code (2 : Nat) (Option.some Jvm.ClassFile.FieldType.int)) ∈ lw_all := lw_g (lw_at lw_m1 130 rfl) rfl
theorem q153 : (Jvm.Cond.instanceMethod ({ cls := "VersionTree", name := "get", desc := "(II)I" } : Jvm.MethodName)) ∈ lw_all := lw_g (lw_at lw_m1 132 rfl) rfl
theorem q154 : (Jvm.Cond.selects "VersionTree" ({ cls := "VersionTree", name := "get", desc := "(II)I" } : Jvm.MethodName) ({ cls := "VersionTree", name := "get", desc := "(II)I" } : Jvm.MethodName)) ∈ lw_all := lw_g (lw_at lw_m1 133 rfl) rfl
theorem q155 : (Jvm.Cond.code ({ cls := "VersionTree", name := "get", desc := "(II)I" } : Jvm.MethodName) prog_1_method_23_code (5 : Nat) (Option.some Jvm.ClassFile.FieldType.int)) ∈ lw_all := lw_g (lw_at lw_m1 134 rfl) rfl
theorem q157 : (Jvm.Cond.instanceMethod ({ cls := "VersionTree", name := "count", desc := "(I)I" } : Jvm.MethodName)) ∈ lw_all := lw_g (lw_at lw_m1 136 rfl) rfl
theorem q158 : (Jvm.Cond.selects "VersionTree" ({ cls := "VersionTree", name := "count", desc := "(I)I" } : Jvm.MethodName) ({ cls := "VersionTree", name := "count", desc := "(I)I" } : Jvm.MethodName)) ∈ lw_all := lw_g (lw_at lw_m1 137 rfl) rfl
theorem q159 : (Jvm.Cond.code ({ cls := "VersionTree", name := "count", desc := "(I)I" } : Jvm.MethodName) prog_1_method_24_code (5 : Nat) (Option.some Jvm.ClassFile.FieldType.int)) ∈ lw_all := lw_g (lw_at lw_m1 138 rfl) rfl
theorem q161 : (Jvm.Cond.instanceMethod ({ cls := "VersionTree", name := "from", desc := "(II)I" } : Jvm.MethodName)) ∈ lw_all := lw_g (lw_at lw_m1 140 rfl) rfl
theorem q162 : (Jvm.Cond.selects "VersionTree" ({ cls := "VersionTree", name := "from", desc := "(II)I" } : Jvm.MethodName) ({ cls := "VersionTree", name := "from", desc := "(II)I" } : Jvm.MethodName)) ∈ lw_all := lw_g (lw_at lw_m1 141 rfl) rfl
theorem q163 : (Jvm.Cond.code ({ cls := "VersionTree", name := "from", desc := "(II)I" } : Jvm.MethodName) prog_1_method_25_code (4 : Nat) (Option.some Jvm.ClassFile.FieldType.int)) ∈ lw_all := lw_g (lw_at lw_m1 142 rfl) rfl
theorem q164 : (Jvm.Cond.methodLink "VersionTree" (97 : Nat) ({ cls := "VersionTree", name := "rank", desc := "(II)I" } : Jvm.MethodName)) ∈ lw_all := lw_g (lw_at lw_m1 143 rfl) rfl
theorem q165 : (Jvm.Cond.instanceMethod ({ cls := "VersionTree", name := "rank", desc := "(II)I" } : Jvm.MethodName)) ∈ lw_all := lw_g (lw_at lw_m1 144 rfl) rfl
theorem q166 : (Jvm.Cond.selects "VersionTree" ({ cls := "VersionTree", name := "rank", desc := "(II)I" } : Jvm.MethodName) ({ cls := "VersionTree", name := "rank", desc := "(II)I" } : Jvm.MethodName)) ∈ lw_all := lw_g (lw_at lw_m1 145 rfl) rfl
theorem q167 : (Jvm.Cond.code ({ cls := "VersionTree", name := "rank", desc := "(II)I" } : Jvm.MethodName) prog_1_method_28_code (7 : Nat) (Option.some Jvm.ClassFile.FieldType.int)) ∈ lw_all := lw_g (lw_at lw_m1 146 rfl) rfl
theorem q168 : (Jvm.Cond.methodLink "VersionTree" (100 : Nat) ({ cls := "VersionTree", name := "keyAt", desc := "(II)I" } : Jvm.MethodName)) ∈ lw_all := lw_g (lw_at lw_m1 147 rfl) rfl
theorem q169 : (Jvm.Cond.instanceMethod ({ cls := "VersionTree", name := "keyAt", desc := "(II)I" } : Jvm.MethodName)) ∈ lw_all := lw_g (lw_at lw_m1 148 rfl) rfl
theorem q170 : (Jvm.Cond.selects "VersionTree" ({ cls := "VersionTree", name := "keyAt", desc := "(II)I" } : Jvm.MethodName) ({ cls := "VersionTree", name := "keyAt", desc := "(II)I" } : Jvm.MethodName)) ∈ lw_all := lw_g (lw_at lw_m1 149 rfl) rfl
theorem q171 : (Jvm.Cond.code ({ cls := "VersionTree", name := "keyAt", desc := "(II)I" } : Jvm.MethodName) prog_1_method_27_code (7 : Nat) (Option.some Jvm.ClassFile.FieldType.int)) ∈ lw_all := lw_g (lw_at lw_m1 150 rfl) rfl
theorem q173 : (Jvm.Cond.instanceMethod ({ cls := "VersionTree", name := "upTo", desc := "(II)I" } : Jvm.MethodName)) ∈ lw_all := lw_g (lw_at lw_m1 152 rfl) rfl
theorem q174 : (Jvm.Cond.selects "VersionTree" ({ cls := "VersionTree", name := "upTo", desc := "(II)I" } : Jvm.MethodName) ({ cls := "VersionTree", name := "upTo", desc := "(II)I" } : Jvm.MethodName)) ∈ lw_all := lw_g (lw_at lw_m1 153 rfl) rfl
theorem q175 : (Jvm.Cond.code ({ cls := "VersionTree", name := "upTo", desc := "(II)I" } : Jvm.MethodName) prog_1_method_26_code (5 : Nat) (Option.some Jvm.ClassFile.FieldType.int)) ∈ lw_all := lw_g (lw_at lw_m1 154 rfl) rfl
theorem q179 : (Jvm.Cond.instanceMethod ({ cls := "VersionTree", name := "sum", desc := "(III)I" } : Jvm.MethodName)) ∈ lw_all := lw_g (lw_at lw_m1 158 rfl) rfl
theorem q180 : (Jvm.Cond.selects "VersionTree" ({ cls := "VersionTree", name := "sum", desc := "(III)I" } : Jvm.MethodName) ({ cls := "VersionTree", name := "sum", desc := "(III)I" } : Jvm.MethodName)) ∈ lw_all := lw_g (lw_at lw_m1 159 rfl) rfl
theorem q181 : (Jvm.Cond.code ({ cls := "VersionTree", name := "sum", desc := "(III)I" } : Jvm.MethodName) prog_1_method_29_code (10 : Nat) (Option.some Jvm.ClassFile.FieldType.int)) ∈ lw_all := lw_g (lw_at lw_m1 160 rfl) rfl
theorem q183 : (Jvm.Cond.instanceMethod ({ cls := "VersionTree", name := "difference", desc := "(II)I" } : Jvm.MethodName)) ∈ lw_all := lw_g (lw_at lw_m1 162 rfl) rfl
theorem q184 : (Jvm.Cond.selects "VersionTree" ({ cls := "VersionTree", name := "difference", desc := "(II)I" } : Jvm.MethodName) ({ cls := "VersionTree", name := "difference", desc := "(II)I" } : Jvm.MethodName)) ∈ lw_all := lw_g (lw_at lw_m1 163 rfl) rfl
theorem q185 : (Jvm.Cond.code ({ cls := "VersionTree", name := "difference", desc := "(II)I" } : Jvm.MethodName) prog_1_method_30_code (5 : Nat) (Option.some Jvm.ClassFile.FieldType.int)) ∈ lw_all := lw_g (lw_at lw_m1 164 rfl) rfl
theorem q186 : (Jvm.Cond.methodLink "VersionTree" (103 : Nat) ({ cls := "VersionTree", name := "missing", desc := "(II)I" } : Jvm.MethodName)) ∈ lw_all := lw_g (lw_at lw_m1 165 rfl) rfl
theorem q187 : (Jvm.Cond.privateMethod ({ cls := "VersionTree", name := "missing", desc := "(II)I" } : Jvm.MethodName)) ∈ lw_tbl := lw_at lw_m1 166 rfl
theorem q188 : (Jvm.Cond.instanceMethod ({ cls := "VersionTree", name := "missing", desc := "(II)I" } : Jvm.MethodName)) ∈ lw_all := lw_g (lw_at lw_m1 167 rfl) rfl
theorem q189 : (Jvm.Cond.code ({ cls := "VersionTree", name := "missing", desc := "(II)I" } : Jvm.MethodName) prog_1_method_31_code (6 : Nat) (Option.some Jvm.ClassFile.FieldType.int)) ∈ lw_all := lw_g (lw_at lw_m1 168 rfl) rfl
theorem q190 : (Jvm.Cond.methodLink "VersionTree" (106 : Nat) ({ cls := "VersionTree", name := "hasLeaf", desc := "(II)Z" } : Jvm.MethodName)) ∈ lw_all := lw_g (lw_at lw_m1 169 rfl) rfl
theorem q191 : (Jvm.Cond.privateMethod ({ cls := "VersionTree", name := "hasLeaf", desc := "(II)Z" } : Jvm.MethodName)) ∈ lw_tbl := lw_at lw_m1 170 rfl
theorem q192 : (Jvm.Cond.instanceMethod ({ cls := "VersionTree", name := "hasLeaf", desc := "(II)Z" } : Jvm.MethodName)) ∈ lw_all := lw_g (lw_at lw_m1 171 rfl) rfl
theorem q193 : (Jvm.Cond.code ({ cls := "VersionTree", name := "hasLeaf", desc := "(II)Z" } : Jvm.MethodName) prog_1_method_32_code (4 : Nat) (Option.some Jvm.ClassFile.FieldType.boolean)) ∈ lw_all := lw_g (lw_at lw_m1 172 rfl) rfl
theorem q194 : (Jvm.Cond.methodLink "VersionTree" (110 : Nat) ({ cls := "VersionTree", name := "missingOf", desc := "(II)I" } : Jvm.MethodName)) ∈ lw_all := lw_g (lw_at lw_m1 173 rfl) rfl
theorem q195 : (Jvm.Cond.privateMethod ({ cls := "VersionTree", name := "missingOf", desc := "(II)I" } : Jvm.MethodName)) ∈ lw_tbl := lw_at lw_m1 174 rfl
theorem q196 : (Jvm.Cond.instanceMethod ({ cls := "VersionTree", name := "missingOf", desc := "(II)I" } : Jvm.MethodName)) ∈ lw_all := lw_g (lw_at lw_m1 175 rfl) rfl
theorem q197 : (Jvm.Cond.code ({ cls := "VersionTree", name := "missingOf", desc := "(II)I" } : Jvm.MethodName) prog_1_method_33_code (6 : Nat) (Option.some Jvm.ClassFile.FieldType.int)) ∈ lw_all := lw_g (lw_at lw_m1 176 rfl) rfl
theorem q199 : (Jvm.Cond.instanceMethod ({ cls := "VersionTree", name := "keys", desc := "(I)I" } : Jvm.MethodName)) ∈ lw_all := lw_g (lw_at lw_m1 178 rfl) rfl
theorem q200 : (Jvm.Cond.selects "VersionTree" ({ cls := "VersionTree", name := "keys", desc := "(I)I" } : Jvm.MethodName) ({ cls := "VersionTree", name := "keys", desc := "(I)I" } : Jvm.MethodName)) ∈ lw_all := lw_g (lw_at lw_m1 179 rfl) rfl
theorem q201 : (Jvm.Cond.code ({ cls := "VersionTree", name := "keys", desc := "(I)I" } : Jvm.MethodName) prog_1_method_34_code (7 : Nat) (Option.some Jvm.ClassFile.FieldType.int)) ∈ lw_all := lw_g (lw_at lw_m1 180 rfl) rfl
theorem in_X0 : ∀ w ∈ wsX00, w ∈ lw_all := lw_in wsX00 [43, 45, 47, 49, 51, 53, 55, 57, 59, 61, 63] (by decide +kernel) (by decide +kernel)

/-! VersionTreeModel -/
def RX1 : String := "VersionTreeModel"
def TX1 : u_T := fun k => match k with
  | 0 => ("VersionTreeModel", "keys", "[I", false)
  | 1 => ("VersionTreeModel", "values", "[I", false)
  | 2 => ("VersionTreeModel", "least", "I", false)
  | _ => ("VersionTreeModel", "greatest", "I", false)
def tyX1 : Nat → FieldType := fun k => match k with
  | 0 => .array .int
  | 1 => .array .int
  | 2 => .int
  | _ => .int
abbrev wsX10 : List Cond := u_ws RX1 TX1 4
theorem nmX1 : ∀ a, a < 4 → ∀ b, b < 4 → a ≠ b → (TX1 a).2.1 ≠ (TX1 b).2.1 := by decide +kernel
theorem tyX1_ok : ∀ k, k < 4 → parseFieldDescriptor (TX1 k).2.2.1 = some (tyX1 k) := by decide +kernel
abbrev cX1_init : ByteArray := prog_3_method_1_code
def yX1_init : MethodName := ⟨RX1, "<init>", "()V"⟩
abbrev cX1_put : ByteArray := prog_3_method_5_code
def yX1_put : MethodName := ⟨RX1, "put", "(II)Z"⟩
abbrev cX1_remove : ByteArray := prog_3_method_6_code
def yX1_remove : MethodName := ⟨RX1, "remove", "(I)Z"⟩
abbrev cX1_in : ByteArray := prog_3_method_3_code
def yX1_in : MethodName := ⟨RX1, "in", "(II)Z"⟩
abbrev cX1_save : ByteArray := prog_3_method_7_code
def yX1_save : MethodName := ⟨RX1, "save", "()I"⟩
abbrev cX1_copy : ByteArray := prog_3_method_4_code
def yX1_copy : MethodName := ⟨RX1, "copy", "(II)V"⟩
abbrev cX1_goBack : ByteArray := prog_3_method_8_code
def yX1_goBack : MethodName := ⟨RX1, "goBack", "(I)Z"⟩
abbrev cX1_table : ByteArray := prog_3_method_2_code
def yX1_table : MethodName := ⟨RX1, "table", "(I)I"⟩
abbrev cX1_kept : ByteArray := prog_3_method_9_code
def yX1_kept : MethodName := ⟨RX1, "kept", "()I"⟩
abbrev cX1_has : ByteArray := prog_3_method_10_code
def yX1_has : MethodName := ⟨RX1, "has", "(II)Z"⟩
abbrev cX1_get : ByteArray := prog_3_method_11_code
def yX1_get : MethodName := ⟨RX1, "get", "(II)I"⟩
abbrev cX1_count : ByteArray := prog_3_method_12_code
def yX1_count : MethodName := ⟨RX1, "count", "(I)I"⟩
abbrev cX1_rank : ByteArray := prog_3_method_16_code
def yX1_rank : MethodName := ⟨RX1, "rank", "(II)I"⟩
abbrev cX1_from : ByteArray := prog_3_method_13_code
def yX1_from : MethodName := ⟨RX1, "from", "(II)I"⟩
abbrev cX1_upTo : ByteArray := prog_3_method_14_code
def yX1_upTo : MethodName := ⟨RX1, "upTo", "(II)I"⟩
abbrev cX1_keyAt : ByteArray := prog_3_method_15_code
def yX1_keyAt : MethodName := ⟨RX1, "keyAt", "(II)I"⟩
abbrev cX1_sum : ByteArray := prog_3_method_17_code
def yX1_sum : MethodName := ⟨RX1, "sum", "(III)I"⟩
abbrev cX1_difference : ByteArray := prog_3_method_18_code
def yX1_difference : MethodName := ⟨RX1, "difference", "(II)I"⟩
abbrev cX1_keys : ByteArray := prog_3_method_19_code
def yX1_keys : MethodName := ⟨RX1, "keys", "(I)I"⟩
theorem q23 : (Jvm.Cond.initialized "VersionTreeModel") ∈ lw_all := lw_g (lw_at lw_m1 2 rfl) rfl
theorem q203 : (Jvm.Cond.instantiable "VersionTreeModel" (4 : Nat)) ∈ lw_all := lw_g (lw_at lw_m1 182 rfl) rfl
theorem q205 : (Jvm.Cond.instanceMethod ({ cls := "VersionTreeModel", name := "<init>", desc := "()V" } : Jvm.MethodName)) ∈ lw_all := lw_g (lw_at lw_m1 184 rfl) rfl
theorem q206 : (Jvm.Cond.code ({ cls := "VersionTreeModel", name := "<init>", desc := "()V" } : Jvm.MethodName) prog_3_method_1_code (1 : Nat) (Option.none : Option Jvm.ClassFile.FieldType)) ∈ lw_all := lw_g (lw_at lw_m1 185 rfl) rfl
theorem q207 : (Jvm.Cond.methodLink "VersionTreeModel" (1 : Nat) ({ cls := "java/lang/Object", name := "<init>", desc := "()V" } : Jvm.MethodName)) ∈ lw_all := lw_g (lw_at lw_m1 186 rfl) rfl
theorem q208 : (Jvm.Cond.fieldLink "VersionTreeModel" (7 : Nat) "VersionTreeModel" "keys" "[I") ∈ lw_all := lw_g (lw_at lw_m1 187 rfl) rfl
theorem q209 : (Jvm.Cond.fieldLink "VersionTreeModel" (13 : Nat) "VersionTreeModel" "values" "[I") ∈ lw_all := lw_g (lw_at lw_m1 188 rfl) rfl
theorem q210 : (Jvm.Cond.fieldLink "VersionTreeModel" (16 : Nat) "VersionTreeModel" "least" "I") ∈ lw_all := lw_g (lw_at lw_m1 189 rfl) rfl
theorem q211 : (Jvm.Cond.fieldLink "VersionTreeModel" (20 : Nat) "VersionTreeModel" "greatest" "I") ∈ lw_all := lw_g (lw_at lw_m1 190 rfl) rfl
theorem q212 : (Jvm.Cond.lays "VersionTreeModel" "VersionTreeModel" "keys" "[I") ∈ lw_all := lw_g (lw_at lw_m1 191 rfl) rfl
theorem q213 : (Jvm.Cond.soleField "VersionTreeModel" "keys") ∈ lw_all := lw_g (lw_at lw_m1 192 rfl) rfl
theorem q214 : (Jvm.Cond.lays "VersionTreeModel" "VersionTreeModel" "values" "[I") ∈ lw_all := lw_g (lw_at lw_m1 193 rfl) rfl
theorem q215 : (Jvm.Cond.soleField "VersionTreeModel" "values") ∈ lw_all := lw_g (lw_at lw_m1 194 rfl) rfl
theorem q216 : (Jvm.Cond.lays "VersionTreeModel" "VersionTreeModel" "least" "I") ∈ lw_all := lw_g (lw_at lw_m1 195 rfl) rfl
theorem q217 : (Jvm.Cond.soleField "VersionTreeModel" "least") ∈ lw_all := lw_g (lw_at lw_m1 196 rfl) rfl
theorem q218 : (Jvm.Cond.lays "VersionTreeModel" "VersionTreeModel" "greatest" "I") ∈ lw_all := lw_g (lw_at lw_m1 197 rfl) rfl
theorem q219 : (Jvm.Cond.soleField "VersionTreeModel" "greatest") ∈ lw_all := lw_g (lw_at lw_m1 198 rfl) rfl
theorem q220 : (Jvm.Cond.superclass "VersionTreeModel" "java/lang/Object") ∈ lw_all := lw_g (lw_at lw_m1 199 rfl) rfl
theorem q222 : (Jvm.Cond.instanceMethod ({ cls := "VersionTreeModel", name := "put", desc := "(II)Z" } : Jvm.MethodName)) ∈ lw_all := lw_g (lw_at lw_m1 201 rfl) rfl
theorem q223 : (Jvm.Cond.selects "VersionTreeModel" ({ cls := "VersionTreeModel", name := "put", desc := "(II)Z" } : Jvm.MethodName) ({ cls := "VersionTreeModel", name := "put", desc := "(II)Z" } : Jvm.MethodName)) ∈ lw_all := lw_g (lw_at lw_m1 202 rfl) rfl
theorem q224 : (Jvm.Cond.code ({ cls := "VersionTreeModel", name := "put", desc := "(II)Z" } : Jvm.MethodName) prog_3_method_5_code (3 : Nat) (Option.some Jvm.ClassFile.FieldType.boolean)) ∈ lw_all := lw_g (lw_at lw_m1 203 rfl) rfl
theorem q226 : (Jvm.Cond.instanceMethod ({ cls := "VersionTreeModel", name := "remove", desc := "(I)Z" } : Jvm.MethodName)) ∈ lw_all := lw_g (lw_at lw_m1 205 rfl) rfl
theorem q227 : (Jvm.Cond.selects "VersionTreeModel" ({ cls := "VersionTreeModel", name := "remove", desc := "(I)Z" } : Jvm.MethodName) ({ cls := "VersionTreeModel", name := "remove", desc := "(I)Z" } : Jvm.MethodName)) ∈ lw_all := lw_g (lw_at lw_m1 206 rfl) rfl
theorem q228 : (Jvm.Cond.code ({ cls := "VersionTreeModel", name := "remove", desc := "(I)Z" } : Jvm.MethodName) prog_3_method_6_code (2 : Nat) (Option.some Jvm.ClassFile.FieldType.boolean)) ∈ lw_all := lw_g (lw_at lw_m1 207 rfl) rfl
theorem q229 : (Jvm.Cond.methodLink "VersionTreeModel" (23 : Nat) ({ cls := "VersionTreeModel", name := "in", desc := "(II)Z" } : Jvm.MethodName)) ∈ lw_all := lw_g (lw_at lw_m1 208 rfl) rfl
theorem q230 : (Jvm.Cond.privateMethod ({ cls := "VersionTreeModel", name := "in", desc := "(II)Z" } : Jvm.MethodName)) ∈ lw_tbl := lw_at lw_m1 209 rfl
theorem q231 : (Jvm.Cond.instanceMethod ({ cls := "VersionTreeModel", name := "in", desc := "(II)Z" } : Jvm.MethodName)) ∈ lw_all := lw_g (lw_at lw_m1 210 rfl) rfl
theorem q232 : (Jvm.Cond.code ({ cls := "VersionTreeModel", name := "in", desc := "(II)Z" } : Jvm.MethodName) prog_3_method_3_code (3 : Nat) (Option.some Jvm.ClassFile.FieldType.boolean)) ∈ lw_all := lw_g (lw_at lw_m1 211 rfl) rfl
theorem q234 : (Jvm.Cond.instanceMethod ({ cls := "VersionTreeModel", name := "save", desc := "()I" } : Jvm.MethodName)) ∈ lw_all := lw_g (lw_at lw_m1 213 rfl) rfl
theorem q235 : (Jvm.Cond.selects "VersionTreeModel" ({ cls := "VersionTreeModel", name := "save", desc := "()I" } : Jvm.MethodName) ({ cls := "VersionTreeModel", name := "save", desc := "()I" } : Jvm.MethodName)) ∈ lw_all := lw_g (lw_at lw_m1 214 rfl) rfl
theorem q236 : (Jvm.Cond.code ({ cls := "VersionTreeModel", name := "save", desc := "()I" } : Jvm.MethodName) prog_3_method_7_code (1 : Nat) (Option.some Jvm.ClassFile.FieldType.int)) ∈ lw_all := lw_g (lw_at lw_m1 215 rfl) rfl
theorem q237 : (Jvm.Cond.methodLink "VersionTreeModel" (27 : Nat) ({ cls := "VersionTreeModel", name := "copy", desc := "(II)V" } : Jvm.MethodName)) ∈ lw_all := lw_g (lw_at lw_m1 216 rfl) rfl
theorem q238 : (Jvm.Cond.privateMethod ({ cls := "VersionTreeModel", name := "copy", desc := "(II)V" } : Jvm.MethodName)) ∈ lw_tbl := lw_at lw_m1 217 rfl
theorem q239 : (Jvm.Cond.instanceMethod ({ cls := "VersionTreeModel", name := "copy", desc := "(II)V" } : Jvm.MethodName)) ∈ lw_all := lw_g (lw_at lw_m1 218 rfl) rfl
theorem q240 : (Jvm.Cond.code ({ cls := "VersionTreeModel", name := "copy", desc := "(II)V" } : Jvm.MethodName) prog_3_method_4_code (4 : Nat) (Option.none : Option Jvm.ClassFile.FieldType)) ∈ lw_all := lw_g (lw_at lw_m1 219 rfl) rfl
theorem q242 : (Jvm.Cond.instanceMethod ({ cls := "VersionTreeModel", name := "goBack", desc := "(I)Z" } : Jvm.MethodName)) ∈ lw_all := lw_g (lw_at lw_m1 221 rfl) rfl
theorem q243 : (Jvm.Cond.selects "VersionTreeModel" ({ cls := "VersionTreeModel", name := "goBack", desc := "(I)Z" } : Jvm.MethodName) ({ cls := "VersionTreeModel", name := "goBack", desc := "(I)Z" } : Jvm.MethodName)) ∈ lw_all := lw_g (lw_at lw_m1 222 rfl) rfl
theorem q244 : (Jvm.Cond.code ({ cls := "VersionTreeModel", name := "goBack", desc := "(I)Z" } : Jvm.MethodName) prog_3_method_8_code (3 : Nat) (Option.some Jvm.ClassFile.FieldType.boolean)) ∈ lw_all := lw_g (lw_at lw_m1 223 rfl) rfl
theorem q245 : (Jvm.Cond.methodLink "VersionTreeModel" (31 : Nat) ({ cls := "VersionTreeModel", name := "table", desc := "(I)I" } : Jvm.MethodName)) ∈ lw_all := lw_g (lw_at lw_m1 224 rfl) rfl
theorem q246 : (Jvm.Cond.privateMethod ({ cls := "VersionTreeModel", name := "table", desc := "(I)I" } : Jvm.MethodName)) ∈ lw_tbl := lw_at lw_m1 225 rfl
theorem q247 : (Jvm.Cond.instanceMethod ({ cls := "VersionTreeModel", name := "table", desc := "(I)I" } : Jvm.MethodName)) ∈ lw_all := lw_g (lw_at lw_m1 226 rfl) rfl
theorem q248 : (Jvm.Cond.code ({ cls := "VersionTreeModel", name := "table", desc := "(I)I" } : Jvm.MethodName) prog_3_method_2_code (2 : Nat) (Option.some Jvm.ClassFile.FieldType.int)) ∈ lw_all := lw_g (lw_at lw_m1 227 rfl) rfl
theorem q250 : (Jvm.Cond.instanceMethod ({ cls := "VersionTreeModel", name := "kept", desc := "()I" } : Jvm.MethodName)) ∈ lw_all := lw_g (lw_at lw_m1 229 rfl) rfl
theorem q251 : (Jvm.Cond.selects "VersionTreeModel" ({ cls := "VersionTreeModel", name := "kept", desc := "()I" } : Jvm.MethodName) ({ cls := "VersionTreeModel", name := "kept", desc := "()I" } : Jvm.MethodName)) ∈ lw_all := lw_g (lw_at lw_m1 230 rfl) rfl
theorem q252 : (Jvm.Cond.code ({ cls := "VersionTreeModel", name := "kept", desc := "()I" } : Jvm.MethodName) prog_3_method_9_code (1 : Nat) (Option.some Jvm.ClassFile.FieldType.int)) ∈ lw_all := lw_g (lw_at lw_m1 231 rfl) rfl
theorem q254 : (Jvm.Cond.instanceMethod ({ cls := "VersionTreeModel", name := "has", desc := "(II)Z" } : Jvm.MethodName)) ∈ lw_all := lw_g (lw_at lw_m1 233 rfl) rfl
theorem q255 : (Jvm.Cond.selects "VersionTreeModel" ({ cls := "VersionTreeModel", name := "has", desc := "(II)Z" } : Jvm.MethodName) ({ cls := "VersionTreeModel", name := "has", desc := "(II)Z" } : Jvm.MethodName)) ∈ lw_all := lw_g (lw_at lw_m1 234 rfl) rfl
theorem q256 : (Jvm.Cond.code ({ cls := "VersionTreeModel", name := "has", desc := "(II)Z" } : Jvm.MethodName) prog_3_method_10_code (4 : Nat) (Option.some Jvm.ClassFile.FieldType.boolean)) ∈ lw_all := lw_g (lw_at lw_m1 235 rfl) rfl
theorem q258 : (Jvm.Cond.instanceMethod ({ cls := "VersionTreeModel", name := "get", desc := "(II)I" } : Jvm.MethodName)) ∈ lw_all := lw_g (lw_at lw_m1 237 rfl) rfl
theorem q259 : (Jvm.Cond.selects "VersionTreeModel" ({ cls := "VersionTreeModel", name := "get", desc := "(II)I" } : Jvm.MethodName) ({ cls := "VersionTreeModel", name := "get", desc := "(II)I" } : Jvm.MethodName)) ∈ lw_all := lw_g (lw_at lw_m1 238 rfl) rfl
theorem q260 : (Jvm.Cond.code ({ cls := "VersionTreeModel", name := "get", desc := "(II)I" } : Jvm.MethodName) prog_3_method_11_code (4 : Nat) (Option.some Jvm.ClassFile.FieldType.int)) ∈ lw_all := lw_g (lw_at lw_m1 239 rfl) rfl
theorem q262 : (Jvm.Cond.instanceMethod ({ cls := "VersionTreeModel", name := "count", desc := "(I)I" } : Jvm.MethodName)) ∈ lw_all := lw_g (lw_at lw_m2 1 rfl) rfl
theorem q263 : (Jvm.Cond.selects "VersionTreeModel" ({ cls := "VersionTreeModel", name := "count", desc := "(I)I" } : Jvm.MethodName) ({ cls := "VersionTreeModel", name := "count", desc := "(I)I" } : Jvm.MethodName)) ∈ lw_all := lw_g (lw_at lw_m2 2 rfl) rfl
theorem q264 : (Jvm.Cond.code ({ cls := "VersionTreeModel", name := "count", desc := "(I)I" } : Jvm.MethodName) prog_3_method_12_code (2 : Nat) (Option.some Jvm.ClassFile.FieldType.int)) ∈ lw_all := lw_g (lw_at lw_m2 3 rfl) rfl
theorem q265 : (Jvm.Cond.methodLink "VersionTreeModel" (35 : Nat) ({ cls := "VersionTreeModel", name := "rank", desc := "(II)I" } : Jvm.MethodName)) ∈ lw_all := lw_g (lw_at lw_m2 4 rfl) rfl
theorem q266 : (Jvm.Cond.instanceMethod ({ cls := "VersionTreeModel", name := "rank", desc := "(II)I" } : Jvm.MethodName)) ∈ lw_all := lw_g (lw_at lw_m2 5 rfl) rfl
theorem q267 : (Jvm.Cond.selects "VersionTreeModel" ({ cls := "VersionTreeModel", name := "rank", desc := "(II)I" } : Jvm.MethodName) ({ cls := "VersionTreeModel", name := "rank", desc := "(II)I" } : Jvm.MethodName)) ∈ lw_all := lw_g (lw_at lw_m2 6 rfl) rfl
theorem q268 : (Jvm.Cond.code ({ cls := "VersionTreeModel", name := "rank", desc := "(II)I" } : Jvm.MethodName) prog_3_method_16_code (6 : Nat) (Option.some Jvm.ClassFile.FieldType.int)) ∈ lw_all := lw_g (lw_at lw_m2 7 rfl) rfl
theorem q270 : (Jvm.Cond.instanceMethod ({ cls := "VersionTreeModel", name := "from", desc := "(II)I" } : Jvm.MethodName)) ∈ lw_all := lw_g (lw_at lw_m2 9 rfl) rfl
theorem q271 : (Jvm.Cond.selects "VersionTreeModel" ({ cls := "VersionTreeModel", name := "from", desc := "(II)I" } : Jvm.MethodName) ({ cls := "VersionTreeModel", name := "from", desc := "(II)I" } : Jvm.MethodName)) ∈ lw_all := lw_g (lw_at lw_m2 10 rfl) rfl
theorem q272 : (Jvm.Cond.code ({ cls := "VersionTreeModel", name := "from", desc := "(II)I" } : Jvm.MethodName) prog_3_method_13_code (5 : Nat) (Option.some Jvm.ClassFile.FieldType.int)) ∈ lw_all := lw_g (lw_at lw_m2 11 rfl) rfl
theorem q274 : (Jvm.Cond.instanceMethod ({ cls := "VersionTreeModel", name := "upTo", desc := "(II)I" } : Jvm.MethodName)) ∈ lw_all := lw_g (lw_at lw_m2 13 rfl) rfl
theorem q275 : (Jvm.Cond.selects "VersionTreeModel" ({ cls := "VersionTreeModel", name := "upTo", desc := "(II)I" } : Jvm.MethodName) ({ cls := "VersionTreeModel", name := "upTo", desc := "(II)I" } : Jvm.MethodName)) ∈ lw_all := lw_g (lw_at lw_m2 14 rfl) rfl
theorem q276 : (Jvm.Cond.code ({ cls := "VersionTreeModel", name := "upTo", desc := "(II)I" } : Jvm.MethodName) prog_3_method_14_code (5 : Nat) (Option.some Jvm.ClassFile.FieldType.int)) ∈ lw_all := lw_g (lw_at lw_m2 15 rfl) rfl
theorem q278 : (Jvm.Cond.instanceMethod ({ cls := "VersionTreeModel", name := "keyAt", desc := "(II)I" } : Jvm.MethodName)) ∈ lw_all := lw_g (lw_at lw_m2 17 rfl) rfl
theorem q279 : (Jvm.Cond.selects "VersionTreeModel" ({ cls := "VersionTreeModel", name := "keyAt", desc := "(II)I" } : Jvm.MethodName) ({ cls := "VersionTreeModel", name := "keyAt", desc := "(II)I" } : Jvm.MethodName)) ∈ lw_all := lw_g (lw_at lw_m2 18 rfl) rfl
theorem q280 : (Jvm.Cond.code ({ cls := "VersionTreeModel", name := "keyAt", desc := "(II)I" } : Jvm.MethodName) prog_3_method_15_code (5 : Nat) (Option.some Jvm.ClassFile.FieldType.int)) ∈ lw_all := lw_g (lw_at lw_m2 19 rfl) rfl
theorem q283 : (Jvm.Cond.instanceMethod ({ cls := "VersionTreeModel", name := "sum", desc := "(III)I" } : Jvm.MethodName)) ∈ lw_all := lw_g (lw_at lw_m2 22 rfl) rfl
theorem q284 : (Jvm.Cond.selects "VersionTreeModel" ({ cls := "VersionTreeModel", name := "sum", desc := "(III)I" } : Jvm.MethodName) ({ cls := "VersionTreeModel", name := "sum", desc := "(III)I" } : Jvm.MethodName)) ∈ lw_all := lw_g (lw_at lw_m2 23 rfl) rfl
theorem q285 : (Jvm.Cond.code ({ cls := "VersionTreeModel", name := "sum", desc := "(III)I" } : Jvm.MethodName) prog_3_method_17_code (7 : Nat) (Option.some Jvm.ClassFile.FieldType.int)) ∈ lw_all := lw_g (lw_at lw_m2 24 rfl) rfl
theorem q287 : (Jvm.Cond.instanceMethod ({ cls := "VersionTreeModel", name := "difference", desc := "(II)I" } : Jvm.MethodName)) ∈ lw_all := lw_g (lw_at lw_m2 26 rfl) rfl
theorem q288 : (Jvm.Cond.selects "VersionTreeModel" ({ cls := "VersionTreeModel", name := "difference", desc := "(II)I" } : Jvm.MethodName) ({ cls := "VersionTreeModel", name := "difference", desc := "(II)I" } : Jvm.MethodName)) ∈ lw_all := lw_g (lw_at lw_m2 27 rfl) rfl
theorem q289 : (Jvm.Cond.code ({ cls := "VersionTreeModel", name := "difference", desc := "(II)I" } : Jvm.MethodName) prog_3_method_18_code (8 : Nat) (Option.some Jvm.ClassFile.FieldType.int)) ∈ lw_all := lw_g (lw_at lw_m2 28 rfl) rfl
theorem q291 : (Jvm.Cond.instanceMethod ({ cls := "VersionTreeModel", name := "keys", desc := "(I)I" } : Jvm.MethodName)) ∈ lw_all := lw_g (lw_at lw_m2 30 rfl) rfl
theorem q292 : (Jvm.Cond.selects "VersionTreeModel" ({ cls := "VersionTreeModel", name := "keys", desc := "(I)I" } : Jvm.MethodName) ({ cls := "VersionTreeModel", name := "keys", desc := "(I)I" } : Jvm.MethodName)) ∈ lw_all := lw_g (lw_at lw_m2 31 rfl) rfl
theorem q293 : (Jvm.Cond.code ({ cls := "VersionTreeModel", name := "keys", desc := "(I)I" } : Jvm.MethodName) prog_3_method_19_code (3 : Nat) (Option.some Jvm.ClassFile.FieldType.int)) ∈ lw_all := lw_g (lw_at lw_m2 32 rfl) rfl
theorem in_X1 : ∀ w ∈ wsX10, w ∈ lw_all := lw_in wsX10 [212, 214, 216, 218] (by decide +kernel) (by decide +kernel)

/-! the law's own entry -/
abbrev cL_law : ByteArray := code

theorem q66 : (Jvm.Cond.arrayClass Jvm.ClassFile.FieldType.byte) ∈ lw_all := lw_g (lw_at lw_m1 45 rfl) rfl
theorem q67 : (Jvm.Cond.arrayClass Jvm.ClassFile.FieldType.int) ∈ lw_all := lw_g (lw_at lw_m1 46 rfl) rfl

theorem q21 : (Jvm.Cond.initialized "VersionTreeLaw") ∈ lw_all := lw_g (lw_at lw_m1 0 rfl) rfl
theorem q24 : (Jvm.Cond.classLink "VersionTreeLaw" (7 : Nat) "VersionTree") ∈ lw_all := lw_g (lw_at lw_m1 3 rfl) rfl
theorem q26 : (Jvm.Cond.methodLink "VersionTreeLaw" (9 : Nat) ({ cls := "VersionTree", name := "<init>", desc := "()V" } : Jvm.MethodName)) ∈ lw_all := lw_g (lw_at lw_m1 5 rfl) rfl
theorem q68 : (Jvm.Cond.methodLink "VersionTreeLaw" (13 : Nat) ({ cls := "VersionTree", name := "put", desc := "(II)Z" } : Jvm.MethodName)) ∈ lw_all := lw_g (lw_at lw_m1 47 rfl) rfl
theorem q112 : (Jvm.Cond.methodLink "VersionTreeLaw" (18 : Nat) ({ cls := "VersionTree", name := "remove", desc := "(I)Z" } : Jvm.MethodName)) ∈ lw_all := lw_g (lw_at lw_m1 91 rfl) rfl
theorem q128 : (Jvm.Cond.methodLink "VersionTreeLaw" (23 : Nat) ({ cls := "VersionTree", name := "save", desc := "()I" } : Jvm.MethodName)) ∈ lw_all := lw_g (lw_at lw_m1 107 rfl) rfl
theorem q132 : (Jvm.Cond.methodLink "VersionTreeLaw" (28 : Nat) ({ cls := "VersionTree", name := "goBack", desc := "(I)Z" } : Jvm.MethodName)) ∈ lw_all := lw_g (lw_at lw_m1 111 rfl) rfl
theorem q140 : (Jvm.Cond.methodLink "VersionTreeLaw" (32 : Nat) ({ cls := "VersionTree", name := "kept", desc := "()I" } : Jvm.MethodName)) ∈ lw_all := lw_g (lw_at lw_m1 119 rfl) rfl
theorem q144 : (Jvm.Cond.methodLink "VersionTreeLaw" (36 : Nat) ({ cls := "VersionTree", name := "has", desc := "(II)Z" } : Jvm.MethodName)) ∈ lw_all := lw_g (lw_at lw_m1 123 rfl) rfl
theorem q152 : (Jvm.Cond.methodLink "VersionTreeLaw" (40 : Nat) ({ cls := "VersionTree", name := "get", desc := "(II)I" } : Jvm.MethodName)) ∈ lw_all := lw_g (lw_at lw_m1 131 rfl) rfl
theorem q156 : (Jvm.Cond.methodLink "VersionTreeLaw" (45 : Nat) ({ cls := "VersionTree", name := "count", desc := "(I)I" } : Jvm.MethodName)) ∈ lw_all := lw_g (lw_at lw_m1 135 rfl) rfl
theorem q160 : (Jvm.Cond.methodLink "VersionTreeLaw" (50 : Nat) ({ cls := "VersionTree", name := "from", desc := "(II)I" } : Jvm.MethodName)) ∈ lw_all := lw_g (lw_at lw_m1 139 rfl) rfl
theorem q172 : (Jvm.Cond.methodLink "VersionTreeLaw" (54 : Nat) ({ cls := "VersionTree", name := "upTo", desc := "(II)I" } : Jvm.MethodName)) ∈ lw_all := lw_g (lw_at lw_m1 151 rfl) rfl
theorem q176 : (Jvm.Cond.methodLink "VersionTreeLaw" (58 : Nat) ({ cls := "VersionTree", name := "keyAt", desc := "(II)I" } : Jvm.MethodName)) ∈ lw_all := lw_g (lw_at lw_m1 155 rfl) rfl
theorem q177 : (Jvm.Cond.methodLink "VersionTreeLaw" (62 : Nat) ({ cls := "VersionTree", name := "rank", desc := "(II)I" } : Jvm.MethodName)) ∈ lw_all := lw_g (lw_at lw_m1 156 rfl) rfl
theorem q178 : (Jvm.Cond.methodLink "VersionTreeLaw" (66 : Nat) ({ cls := "VersionTree", name := "sum", desc := "(III)I" } : Jvm.MethodName)) ∈ lw_all := lw_g (lw_at lw_m1 157 rfl) rfl
theorem q182 : (Jvm.Cond.methodLink "VersionTreeLaw" (71 : Nat) ({ cls := "VersionTree", name := "difference", desc := "(II)I" } : Jvm.MethodName)) ∈ lw_all := lw_g (lw_at lw_m1 161 rfl) rfl
theorem q198 : (Jvm.Cond.methodLink "VersionTreeLaw" (75 : Nat) ({ cls := "VersionTree", name := "keys", desc := "(I)I" } : Jvm.MethodName)) ∈ lw_all := lw_g (lw_at lw_m1 177 rfl) rfl
theorem q202 : (Jvm.Cond.classLink "VersionTreeLaw" (10 : Nat) "VersionTreeModel") ∈ lw_all := lw_g (lw_at lw_m1 181 rfl) rfl
theorem q204 : (Jvm.Cond.methodLink "VersionTreeLaw" (12 : Nat) ({ cls := "VersionTreeModel", name := "<init>", desc := "()V" } : Jvm.MethodName)) ∈ lw_all := lw_g (lw_at lw_m1 183 rfl) rfl
theorem q221 : (Jvm.Cond.methodLink "VersionTreeLaw" (17 : Nat) ({ cls := "VersionTreeModel", name := "put", desc := "(II)Z" } : Jvm.MethodName)) ∈ lw_all := lw_g (lw_at lw_m1 200 rfl) rfl
theorem q225 : (Jvm.Cond.methodLink "VersionTreeLaw" (22 : Nat) ({ cls := "VersionTreeModel", name := "remove", desc := "(I)Z" } : Jvm.MethodName)) ∈ lw_all := lw_g (lw_at lw_m1 204 rfl) rfl
theorem q233 : (Jvm.Cond.methodLink "VersionTreeLaw" (27 : Nat) ({ cls := "VersionTreeModel", name := "save", desc := "()I" } : Jvm.MethodName)) ∈ lw_all := lw_g (lw_at lw_m1 212 rfl) rfl
theorem q241 : (Jvm.Cond.methodLink "VersionTreeLaw" (31 : Nat) ({ cls := "VersionTreeModel", name := "goBack", desc := "(I)Z" } : Jvm.MethodName)) ∈ lw_all := lw_g (lw_at lw_m1 220 rfl) rfl
theorem q249 : (Jvm.Cond.methodLink "VersionTreeLaw" (35 : Nat) ({ cls := "VersionTreeModel", name := "kept", desc := "()I" } : Jvm.MethodName)) ∈ lw_all := lw_g (lw_at lw_m1 228 rfl) rfl
theorem q253 : (Jvm.Cond.methodLink "VersionTreeLaw" (39 : Nat) ({ cls := "VersionTreeModel", name := "has", desc := "(II)Z" } : Jvm.MethodName)) ∈ lw_all := lw_g (lw_at lw_m1 232 rfl) rfl
theorem q257 : (Jvm.Cond.methodLink "VersionTreeLaw" (44 : Nat) ({ cls := "VersionTreeModel", name := "get", desc := "(II)I" } : Jvm.MethodName)) ∈ lw_all := lw_g (lw_at lw_m1 236 rfl) rfl
theorem q261 : (Jvm.Cond.methodLink "VersionTreeLaw" (49 : Nat) ({ cls := "VersionTreeModel", name := "count", desc := "(I)I" } : Jvm.MethodName)) ∈ lw_all := lw_g (lw_at lw_m2 0 rfl) rfl
theorem q269 : (Jvm.Cond.methodLink "VersionTreeLaw" (53 : Nat) ({ cls := "VersionTreeModel", name := "from", desc := "(II)I" } : Jvm.MethodName)) ∈ lw_all := lw_g (lw_at lw_m2 8 rfl) rfl
theorem q273 : (Jvm.Cond.methodLink "VersionTreeLaw" (57 : Nat) ({ cls := "VersionTreeModel", name := "upTo", desc := "(II)I" } : Jvm.MethodName)) ∈ lw_all := lw_g (lw_at lw_m2 12 rfl) rfl
theorem q277 : (Jvm.Cond.methodLink "VersionTreeLaw" (61 : Nat) ({ cls := "VersionTreeModel", name := "keyAt", desc := "(II)I" } : Jvm.MethodName)) ∈ lw_all := lw_g (lw_at lw_m2 16 rfl) rfl
theorem q281 : (Jvm.Cond.methodLink "VersionTreeLaw" (65 : Nat) ({ cls := "VersionTreeModel", name := "rank", desc := "(II)I" } : Jvm.MethodName)) ∈ lw_all := lw_g (lw_at lw_m2 20 rfl) rfl
theorem q282 : (Jvm.Cond.methodLink "VersionTreeLaw" (70 : Nat) ({ cls := "VersionTreeModel", name := "sum", desc := "(III)I" } : Jvm.MethodName)) ∈ lw_all := lw_g (lw_at lw_m2 21 rfl) rfl
theorem q286 : (Jvm.Cond.methodLink "VersionTreeLaw" (74 : Nat) ({ cls := "VersionTreeModel", name := "difference", desc := "(II)I" } : Jvm.MethodName)) ∈ lw_all := lw_g (lw_at lw_m2 25 rfl) rfl
theorem q290 : (Jvm.Cond.methodLink "VersionTreeLaw" (78 : Nat) ({ cls := "VersionTreeModel", name := "keys", desc := "(I)I" } : Jvm.MethodName)) ∈ lw_all := lw_g (lw_at lw_m2 29 rfl) rfl
end
section
set_option maxRecDepth 100000
theorem dX0_init_0 : decode cX0_init 0 = .ok (.aload_n 0, 1) := by decide +kernel
theorem dX0_init_1 : decode cX0_init 1 = .ok (.invokespecial 1, 3) := by decide +kernel
theorem dX0_init_4 : decode cX0_init 4 = .ok (.aload_n 0, 1) := by decide +kernel
theorem dX0_init_5 : decode cX0_init 5 = .ok (.bipush 96, 2) := by decide +kernel
theorem dX0_init_7 : decode cX0_init 7 = .ok (.newarray .byte, 2) := by decide +kernel
theorem dX0_init_9 : decode cX0_init 9 = .ok (.putfield 7, 3) := by decide +kernel
theorem dX0_init_12 : decode cX0_init 12 = .ok (.aload_n 0, 1) := by decide +kernel
theorem dX0_init_13 : decode cX0_init 13 = .ok (.bipush 96, 2) := by decide +kernel
theorem dX0_init_15 : decode cX0_init 15 = .ok (.newarray .byte, 2) := by decide +kernel
theorem dX0_init_17 : decode cX0_init 17 = .ok (.putfield 13, 3) := by decide +kernel
theorem dX0_init_20 : decode cX0_init 20 = .ok (.aload_n 0, 1) := by decide +kernel
theorem dX0_init_21 : decode cX0_init 21 = .ok (.sipush 480, 3) := by decide +kernel
theorem dX0_init_24 : decode cX0_init 24 = .ok (.newarray .byte, 2) := by decide +kernel
theorem dX0_init_26 : decode cX0_init 26 = .ok (.putfield 16, 3) := by decide +kernel
theorem dX0_init_29 : decode cX0_init 29 = .ok (.aload_n 0, 1) := by decide +kernel
theorem dX0_init_30 : decode cX0_init 30 = .ok (.sipush 480, 3) := by decide +kernel
theorem dX0_init_33 : decode cX0_init 33 = .ok (.newarray .int, 2) := by decide +kernel
theorem dX0_init_35 : decode cX0_init 35 = .ok (.putfield 19, 3) := by decide +kernel
theorem dX0_init_38 : decode cX0_init 38 = .ok (.aload_n 0, 1) := by decide +kernel
theorem dX0_init_39 : decode cX0_init 39 = .ok (.bipush 8, 2) := by decide +kernel
theorem dX0_init_41 : decode cX0_init 41 = .ok (.newarray .byte, 2) := by decide +kernel
theorem dX0_init_43 : decode cX0_init 43 = .ok (.putfield 23, 3) := by decide +kernel
theorem dX0_init_46 : decode cX0_init 46 = .ok (.aload_n 0, 1) := by decide +kernel
theorem dX0_init_47 : decode cX0_init 47 = .ok (.bipush 8, 2) := by decide +kernel
theorem dX0_init_49 : decode cX0_init 49 = .ok (.newarray .byte, 2) := by decide +kernel
theorem dX0_init_51 : decode cX0_init 51 = .ok (.putfield 26, 3) := by decide +kernel
theorem dX0_init_54 : decode cX0_init 54 = .ok (.aload_n 0, 1) := by decide +kernel
theorem dX0_init_55 : decode cX0_init 55 = .ok (.sipush 136, 3) := by decide +kernel
theorem dX0_init_58 : decode cX0_init 58 = .ok (.newarray .byte, 2) := by decide +kernel
theorem dX0_init_60 : decode cX0_init 60 = .ok (.putfield 29, 3) := by decide +kernel
theorem dX0_init_63 : decode cX0_init 63 = .ok (.aload_n 0, 1) := by decide +kernel
theorem dX0_init_64 : decode cX0_init 64 = .ok (.iconst 4, 1) := by decide +kernel
theorem dX0_init_65 : decode cX0_init 65 = .ok (.newarray .byte, 2) := by decide +kernel
theorem dX0_init_67 : decode cX0_init 67 = .ok (.putfield 32, 3) := by decide +kernel
theorem dX0_init_70 : decode cX0_init 70 = .ok (.aload_n 0, 1) := by decide +kernel
theorem dX0_init_71 : decode cX0_init 71 = .ok (.iconst 1, 1) := by decide +kernel
theorem dX0_init_72 : decode cX0_init 72 = .ok (.putfield 35, 3) := by decide +kernel
theorem dX0_init_75 : decode cX0_init 75 = .ok (.aload_n 0, 1) := by decide +kernel
theorem dX0_init_76 : decode cX0_init 76 = .ok (.getfield 23, 3) := by decide +kernel
theorem dX0_init_79 : decode cX0_init 79 = .ok (.iconst 0, 1) := by decide +kernel
theorem dX0_init_80 : decode cX0_init 80 = .ok (.iconst 1, 1) := by decide +kernel
theorem dX0_init_81 : decode cX0_init 81 = .ok (.bastore, 1) := by decide +kernel
theorem dX0_init_82 : decode cX0_init 82 = .ok (.return_, 1) := by decide +kernel
theorem dX0_put_0 : decode cX0_put 0 = .ok (.iload_n 1, 1) := by decide +kernel
theorem dX0_put_1 : decode cX0_put 1 = .ok (.ifCond .lt 9, 3) := by decide +kernel
theorem dX0_put_4 : decode cX0_put 4 = .ok (.iload_n 1, 1) := by decide +kernel
theorem dX0_put_5 : decode cX0_put 5 = .ok (.bipush 32, 2) := by decide +kernel
theorem dX0_put_7 : decode cX0_put 7 = .ok (.if_icmp .lt 5, 3) := by decide +kernel
theorem dX0_put_10 : decode cX0_put 10 = .ok (.iconst 0, 1) := by decide +kernel
theorem dX0_put_11 : decode cX0_put 11 = .ok (.ireturn, 1) := by decide +kernel
theorem dX0_put_12 : decode cX0_put 12 = .ok (.aload_n 0, 1) := by decide +kernel
theorem dX0_put_13 : decode cX0_put 13 = .ok (.invokevirtual 64, 3) := by decide +kernel
theorem dX0_put_16 : decode cX0_put 16 = .ok (.aload_n 0, 1) := by decide +kernel
theorem dX0_put_17 : decode cX0_put 17 = .ok (.aload_n 0, 1) := by decide +kernel
theorem dX0_put_18 : decode cX0_put 18 = .ok (.getfield 39, 3) := by decide +kernel
theorem dX0_put_21 : decode cX0_put 21 = .ok (.iload_n 1, 1) := by decide +kernel
theorem dX0_put_22 : decode cX0_put 22 = .ok (.invokevirtual 57, 3) := by decide +kernel
theorem dX0_put_25 : decode cX0_put 25 = .ok (.istore_n 3, 1) := by decide +kernel
theorem dX0_put_26 : decode cX0_put 26 = .ok (.iload_n 3, 1) := by decide +kernel
theorem dX0_put_27 : decode cX0_put 27 = .ok (.ifCond .ge 18, 3) := by decide +kernel
theorem dX0_put_30 : decode cX0_put 30 = .ok (.iconst 0, 1) := by decide +kernel
theorem dX0_put_31 : decode cX0_put 31 = .ok (.istore_n 3, 1) := by decide +kernel
theorem dX0_put_32 : decode cX0_put 32 = .ok (.aload_n 0, 1) := by decide +kernel
theorem dX0_put_33 : decode cX0_put 33 = .ok (.invokevirtual 50, 3) := by decide +kernel
theorem dX0_put_36 : decode cX0_put 36 = .ok (.istore 4, 2) := by decide +kernel
theorem dX0_put_38 : decode cX0_put 38 = .ok (.aload_n 0, 1) := by decide +kernel
theorem dX0_put_39 : decode cX0_put 39 = .ok (.iconst 0, 1) := by decide +kernel
theorem dX0_put_40 : decode cX0_put 40 = .ok (.iload 4, 2) := by decide +kernel
theorem dX0_put_42 : decode cX0_put 42 = .ok (.invokevirtual 67, 3) := by decide +kernel
theorem dX0_put_45 : decode cX0_put 45 = .ok (.aload_n 0, 1) := by decide +kernel
theorem dX0_put_46 : decode cX0_put 46 = .ok (.iload_n 3, 1) := by decide +kernel
theorem dX0_put_47 : decode cX0_put 47 = .ok (.invokevirtual 71, 3) := by decide +kernel
theorem dX0_put_50 : decode cX0_put 50 = .ok (.istore 4, 2) := by decide +kernel
theorem dX0_put_52 : decode cX0_put 52 = .ok (.aload_n 0, 1) := by decide +kernel
theorem dX0_put_53 : decode cX0_put 53 = .ok (.iload 4, 2) := by decide +kernel
theorem dX0_put_55 : decode cX0_put 55 = .ok (.iload_n 1, 1) := by decide +kernel
theorem dX0_put_56 : decode cX0_put 56 = .ok (.invokevirtual 61, 3) := by decide +kernel
theorem dX0_put_59 : decode cX0_put 59 = .ok (.istore 5, 2) := by decide +kernel
theorem dX0_put_61 : decode cX0_put 61 = .ok (.iload 5, 2) := by decide +kernel
theorem dX0_put_63 : decode cX0_put 63 = .ok (.aload_n 0, 1) := by decide +kernel
theorem dX0_put_64 : decode cX0_put 64 = .ok (.getfield 13, 3) := by decide +kernel
theorem dX0_put_67 : decode cX0_put 67 = .ok (.iload 4, 2) := by decide +kernel
theorem dX0_put_69 : decode cX0_put 69 = .ok (.baload, 1) := by decide +kernel
theorem dX0_put_70 : decode cX0_put 70 = .ok (.if_icmp .eq 19, 3) := by decide +kernel
theorem dX0_put_73 : decode cX0_put 73 = .ok (.aload_n 0, 1) := by decide +kernel
theorem dX0_put_74 : decode cX0_put 74 = .ok (.getfield 16, 3) := by decide +kernel
theorem dX0_put_77 : decode cX0_put 77 = .ok (.iload 4, 2) := by decide +kernel
theorem dX0_put_79 : decode cX0_put 79 = .ok (.iconst 5, 1) := by decide +kernel
theorem dX0_put_80 : decode cX0_put 80 = .ok (.imul, 1) := by decide +kernel
theorem dX0_put_81 : decode cX0_put 81 = .ok (.iload 5, 2) := by decide +kernel
theorem dX0_put_83 : decode cX0_put 83 = .ok (.iadd, 1) := by decide +kernel
theorem dX0_put_84 : decode cX0_put 84 = .ok (.baload, 1) := by decide +kernel
theorem dX0_put_85 : decode cX0_put 85 = .ok (.iload_n 1, 1) := by decide +kernel
theorem dX0_put_86 : decode cX0_put 86 = .ok (.if_icmp .eq 65, 3) := by decide +kernel
theorem dX0_put_89 : decode cX0_put 89 = .ok (.aload_n 0, 1) := by decide +kernel
theorem dX0_put_90 : decode cX0_put 90 = .ok (.getfield 13, 3) := by decide +kernel
theorem dX0_put_93 : decode cX0_put 93 = .ok (.iload 4, 2) := by decide +kernel
theorem dX0_put_95 : decode cX0_put 95 = .ok (.baload, 1) := by decide +kernel
theorem dX0_put_96 : decode cX0_put 96 = .ok (.istore 6, 2) := by decide +kernel
theorem dX0_put_98 : decode cX0_put 98 = .ok (.iload 6, 2) := by decide +kernel
theorem dX0_put_100 : decode cX0_put 100 = .ok (.iload 5, 2) := by decide +kernel
theorem dX0_put_102 : decode cX0_put 102 = .ok (.if_icmp .le 23, 3) := by decide +kernel
theorem dX0_put_105 : decode cX0_put 105 = .ok (.aload_n 0, 1) := by decide +kernel
theorem dX0_put_106 : decode cX0_put 106 = .ok (.iload 4, 2) := by decide +kernel
theorem dX0_put_108 : decode cX0_put 108 = .ok (.iload 6, 2) := by decide +kernel
theorem dX0_put_110 : decode cX0_put 110 = .ok (.iconst 1, 1) := by decide +kernel
theorem dX0_put_111 : decode cX0_put 111 = .ok (.isub, 1) := by decide +kernel
theorem dX0_put_112 : decode cX0_put 112 = .ok (.iload 4, 2) := by decide +kernel
theorem dX0_put_114 : decode cX0_put 114 = .ok (.iload 6, 2) := by decide +kernel
theorem dX0_put_116 : decode cX0_put 116 = .ok (.invokevirtual 53, 3) := by decide +kernel
theorem dX0_put_119 : decode cX0_put 119 = .ok (.iinc 6 (-1), 3) := by decide +kernel
theorem dX0_put_122 : decode cX0_put 122 = .ok (.goto (-24), 3) := by decide +kernel
theorem dX0_put_125 : decode cX0_put 125 = .ok (.aload_n 0, 1) := by decide +kernel
theorem dX0_put_126 : decode cX0_put 126 = .ok (.getfield 13, 3) := by decide +kernel
theorem dX0_put_129 : decode cX0_put 129 = .ok (.iload 4, 2) := by decide +kernel
theorem dX0_put_131 : decode cX0_put 131 = .ok (.dup2, 1) := by decide +kernel
theorem dX0_put_132 : decode cX0_put 132 = .ok (.baload, 1) := by decide +kernel
theorem dX0_put_133 : decode cX0_put 133 = .ok (.iconst 1, 1) := by decide +kernel
theorem dX0_put_134 : decode cX0_put 134 = .ok (.iadd, 1) := by decide +kernel
theorem dX0_put_135 : decode cX0_put 135 = .ok (.i2b, 1) := by decide +kernel
theorem dX0_put_136 : decode cX0_put 136 = .ok (.bastore, 1) := by decide +kernel
theorem dX0_put_137 : decode cX0_put 137 = .ok (.aload_n 0, 1) := by decide +kernel
theorem dX0_put_138 : decode cX0_put 138 = .ok (.getfield 16, 3) := by decide +kernel
theorem dX0_put_141 : decode cX0_put 141 = .ok (.iload 4, 2) := by decide +kernel
theorem dX0_put_143 : decode cX0_put 143 = .ok (.iconst 5, 1) := by decide +kernel
theorem dX0_put_144 : decode cX0_put 144 = .ok (.imul, 1) := by decide +kernel
theorem dX0_put_145 : decode cX0_put 145 = .ok (.iload 5, 2) := by decide +kernel
theorem dX0_put_147 : decode cX0_put 147 = .ok (.iadd, 1) := by decide +kernel
theorem dX0_put_148 : decode cX0_put 148 = .ok (.iload_n 1, 1) := by decide +kernel
theorem dX0_put_149 : decode cX0_put 149 = .ok (.i2b, 1) := by decide +kernel
theorem dX0_put_150 : decode cX0_put 150 = .ok (.bastore, 1) := by decide +kernel
theorem dX0_put_151 : decode cX0_put 151 = .ok (.aload_n 0, 1) := by decide +kernel
theorem dX0_put_152 : decode cX0_put 152 = .ok (.getfield 19, 3) := by decide +kernel
theorem dX0_put_155 : decode cX0_put 155 = .ok (.iload 4, 2) := by decide +kernel
theorem dX0_put_157 : decode cX0_put 157 = .ok (.iconst 5, 1) := by decide +kernel
theorem dX0_put_158 : decode cX0_put 158 = .ok (.imul, 1) := by decide +kernel
theorem dX0_put_159 : decode cX0_put 159 = .ok (.iload 5, 2) := by decide +kernel
theorem dX0_put_161 : decode cX0_put 161 = .ok (.iadd, 1) := by decide +kernel
theorem dX0_put_162 : decode cX0_put 162 = .ok (.iload_n 2, 1) := by decide +kernel
theorem dX0_put_163 : decode cX0_put 163 = .ok (.iastore, 1) := by decide +kernel
theorem dX0_put_164 : decode cX0_put 164 = .ok (.aload_n 0, 1) := by decide +kernel
theorem dX0_put_165 : decode cX0_put 165 = .ok (.getfield 13, 3) := by decide +kernel
theorem dX0_put_168 : decode cX0_put 168 = .ok (.iload 4, 2) := by decide +kernel
theorem dX0_put_170 : decode cX0_put 170 = .ok (.baload, 1) := by decide +kernel
theorem dX0_put_171 : decode cX0_put 171 = .ok (.iconst 4, 1) := by decide +kernel
theorem dX0_put_172 : decode cX0_put 172 = .ok (.if_icmp .le 10, 3) := by decide +kernel
theorem dX0_put_175 : decode cX0_put 175 = .ok (.aload_n 0, 1) := by decide +kernel
theorem dX0_put_176 : decode cX0_put 176 = .ok (.iload_n 3, 1) := by decide +kernel
theorem dX0_put_177 : decode cX0_put 177 = .ok (.iload 4, 2) := by decide +kernel
theorem dX0_put_179 : decode cX0_put 179 = .ok (.invokevirtual 75, 3) := by decide +kernel
theorem dX0_put_182 : decode cX0_put 182 = .ok (.iconst 1, 1) := by decide +kernel
theorem dX0_put_183 : decode cX0_put 183 = .ok (.ireturn, 1) := by decide +kernel
theorem dX0_ownRoot_0 : decode cX0_ownRoot 0 = .ok (.aload_n 0, 1) := by decide +kernel
theorem dX0_ownRoot_1 : decode cX0_ownRoot 1 = .ok (.getfield 23, 3) := by decide +kernel
theorem dX0_ownRoot_4 : decode cX0_ownRoot 4 = .ok (.aload_n 0, 1) := by decide +kernel
theorem dX0_ownRoot_5 : decode cX0_ownRoot 5 = .ok (.getfield 39, 3) := by decide +kernel
theorem dX0_ownRoot_8 : decode cX0_ownRoot 8 = .ok (.baload, 1) := by decide +kernel
theorem dX0_ownRoot_9 : decode cX0_ownRoot 9 = .ok (.iconst 1, 1) := by decide +kernel
theorem dX0_ownRoot_10 : decode cX0_ownRoot 10 = .ok (.if_icmp .ne 4, 3) := by decide +kernel
theorem dX0_ownRoot_13 : decode cX0_ownRoot 13 = .ok (.return_, 1) := by decide +kernel
theorem dX0_ownRoot_14 : decode cX0_ownRoot 14 = .ok (.aload_n 0, 1) := by decide +kernel
theorem dX0_ownRoot_15 : decode cX0_ownRoot 15 = .ok (.getfield 39, 3) := by decide +kernel
theorem dX0_ownRoot_18 : decode cX0_ownRoot 18 = .ok (.istore_n 1, 1) := by decide +kernel
theorem dX0_ownRoot_19 : decode cX0_ownRoot 19 = .ok (.aload_n 0, 1) := by decide +kernel
theorem dX0_ownRoot_20 : decode cX0_ownRoot 20 = .ok (.invokevirtual 42, 3) := by decide +kernel
theorem dX0_ownRoot_23 : decode cX0_ownRoot 23 = .ok (.istore_n 2, 1) := by decide +kernel
theorem dX0_ownRoot_24 : decode cX0_ownRoot 24 = .ok (.aload_n 0, 1) := by decide +kernel
theorem dX0_ownRoot_25 : decode cX0_ownRoot 25 = .ok (.getfield 26, 3) := by decide +kernel
theorem dX0_ownRoot_28 : decode cX0_ownRoot 28 = .ok (.iload_n 2, 1) := by decide +kernel
theorem dX0_ownRoot_29 : decode cX0_ownRoot 29 = .ok (.aload_n 0, 1) := by decide +kernel
theorem dX0_ownRoot_30 : decode cX0_ownRoot 30 = .ok (.getfield 26, 3) := by decide +kernel
theorem dX0_ownRoot_33 : decode cX0_ownRoot 33 = .ok (.iload_n 1, 1) := by decide +kernel
theorem dX0_ownRoot_34 : decode cX0_ownRoot 34 = .ok (.baload, 1) := by decide +kernel
theorem dX0_ownRoot_35 : decode cX0_ownRoot 35 = .ok (.bastore, 1) := by decide +kernel
theorem dX0_ownRoot_36 : decode cX0_ownRoot 36 = .ok (.iconst 0, 1) := by decide +kernel
theorem dX0_ownRoot_37 : decode cX0_ownRoot 37 = .ok (.istore_n 3, 1) := by decide +kernel
theorem dX0_ownRoot_38 : decode cX0_ownRoot 38 = .ok (.iload_n 3, 1) := by decide +kernel
theorem dX0_ownRoot_39 : decode cX0_ownRoot 39 = .ok (.aload_n 0, 1) := by decide +kernel
theorem dX0_ownRoot_40 : decode cX0_ownRoot 40 = .ok (.getfield 26, 3) := by decide +kernel
theorem dX0_ownRoot_43 : decode cX0_ownRoot 43 = .ok (.iload_n 1, 1) := by decide +kernel
theorem dX0_ownRoot_44 : decode cX0_ownRoot 44 = .ok (.baload, 1) := by decide +kernel
theorem dX0_ownRoot_45 : decode cX0_ownRoot 45 = .ok (.if_icmp .ge 48, 3) := by decide +kernel
theorem dX0_ownRoot_48 : decode cX0_ownRoot 48 = .ok (.aload_n 0, 1) := by decide +kernel
theorem dX0_ownRoot_49 : decode cX0_ownRoot 49 = .ok (.getfield 29, 3) := by decide +kernel
theorem dX0_ownRoot_52 : decode cX0_ownRoot 52 = .ok (.iload_n 1, 1) := by decide +kernel
theorem dX0_ownRoot_53 : decode cX0_ownRoot 53 = .ok (.bipush 17, 2) := by decide +kernel
theorem dX0_ownRoot_55 : decode cX0_ownRoot 55 = .ok (.imul, 1) := by decide +kernel
theorem dX0_ownRoot_56 : decode cX0_ownRoot 56 = .ok (.iload_n 3, 1) := by decide +kernel
theorem dX0_ownRoot_57 : decode cX0_ownRoot 57 = .ok (.iadd, 1) := by decide +kernel
theorem dX0_ownRoot_58 : decode cX0_ownRoot 58 = .ok (.baload, 1) := by decide +kernel
theorem dX0_ownRoot_59 : decode cX0_ownRoot 59 = .ok (.istore 4, 2) := by decide +kernel
theorem dX0_ownRoot_61 : decode cX0_ownRoot 61 = .ok (.aload_n 0, 1) := by decide +kernel
theorem dX0_ownRoot_62 : decode cX0_ownRoot 62 = .ok (.getfield 29, 3) := by decide +kernel
theorem dX0_ownRoot_65 : decode cX0_ownRoot 65 = .ok (.iload_n 2, 1) := by decide +kernel
theorem dX0_ownRoot_66 : decode cX0_ownRoot 66 = .ok (.bipush 17, 2) := by decide +kernel
theorem dX0_ownRoot_68 : decode cX0_ownRoot 68 = .ok (.imul, 1) := by decide +kernel
theorem dX0_ownRoot_69 : decode cX0_ownRoot 69 = .ok (.iload_n 3, 1) := by decide +kernel
theorem dX0_ownRoot_70 : decode cX0_ownRoot 70 = .ok (.iadd, 1) := by decide +kernel
theorem dX0_ownRoot_71 : decode cX0_ownRoot 71 = .ok (.iload 4, 2) := by decide +kernel
theorem dX0_ownRoot_73 : decode cX0_ownRoot 73 = .ok (.i2b, 1) := by decide +kernel
theorem dX0_ownRoot_74 : decode cX0_ownRoot 74 = .ok (.bastore, 1) := by decide +kernel
theorem dX0_ownRoot_75 : decode cX0_ownRoot 75 = .ok (.aload_n 0, 1) := by decide +kernel
theorem dX0_ownRoot_76 : decode cX0_ownRoot 76 = .ok (.getfield 7, 3) := by decide +kernel
theorem dX0_ownRoot_79 : decode cX0_ownRoot 79 = .ok (.iload 4, 2) := by decide +kernel
theorem dX0_ownRoot_81 : decode cX0_ownRoot 81 = .ok (.dup2, 1) := by decide +kernel
theorem dX0_ownRoot_82 : decode cX0_ownRoot 82 = .ok (.baload, 1) := by decide +kernel
theorem dX0_ownRoot_83 : decode cX0_ownRoot 83 = .ok (.iconst 1, 1) := by decide +kernel
theorem dX0_ownRoot_84 : decode cX0_ownRoot 84 = .ok (.iadd, 1) := by decide +kernel
theorem dX0_ownRoot_85 : decode cX0_ownRoot 85 = .ok (.i2b, 1) := by decide +kernel
theorem dX0_ownRoot_86 : decode cX0_ownRoot 86 = .ok (.bastore, 1) := by decide +kernel
theorem dX0_ownRoot_87 : decode cX0_ownRoot 87 = .ok (.iinc 3 1, 3) := by decide +kernel
theorem dX0_ownRoot_90 : decode cX0_ownRoot 90 = .ok (.goto (-52), 3) := by decide +kernel
theorem dX0_ownRoot_93 : decode cX0_ownRoot 93 = .ok (.aload_n 0, 1) := by decide +kernel
theorem dX0_ownRoot_94 : decode cX0_ownRoot 94 = .ok (.iload_n 1, 1) := by decide +kernel
theorem dX0_ownRoot_95 : decode cX0_ownRoot 95 = .ok (.invokevirtual 46, 3) := by decide +kernel
theorem dX0_ownRoot_98 : decode cX0_ownRoot 98 = .ok (.aload_n 0, 1) := by decide +kernel
theorem dX0_ownRoot_99 : decode cX0_ownRoot 99 = .ok (.iload_n 2, 1) := by decide +kernel
theorem dX0_ownRoot_100 : decode cX0_ownRoot 100 = .ok (.putfield 39, 3) := by decide +kernel
theorem dX0_ownRoot_103 : decode cX0_ownRoot 103 = .ok (.return_, 1) := by decide +kernel
theorem dX0_freshRoot_0 : decode cX0_freshRoot 0 = .ok (.iconst 0, 1) := by decide +kernel
theorem dX0_freshRoot_1 : decode cX0_freshRoot 1 = .ok (.istore_n 1, 1) := by decide +kernel
theorem dX0_freshRoot_2 : decode cX0_freshRoot 2 = .ok (.iload_n 1, 1) := by decide +kernel
theorem dX0_freshRoot_3 : decode cX0_freshRoot 3 = .ok (.bipush 8, 2) := by decide +kernel
theorem dX0_freshRoot_5 : decode cX0_freshRoot 5 = .ok (.if_icmp .ge 34, 3) := by decide +kernel
theorem dX0_freshRoot_8 : decode cX0_freshRoot 8 = .ok (.aload_n 0, 1) := by decide +kernel
theorem dX0_freshRoot_9 : decode cX0_freshRoot 9 = .ok (.getfield 23, 3) := by decide +kernel
theorem dX0_freshRoot_12 : decode cX0_freshRoot 12 = .ok (.iload_n 1, 1) := by decide +kernel
theorem dX0_freshRoot_13 : decode cX0_freshRoot 13 = .ok (.baload, 1) := by decide +kernel
theorem dX0_freshRoot_14 : decode cX0_freshRoot 14 = .ok (.ifCond .ne 19, 3) := by decide +kernel
theorem dX0_freshRoot_17 : decode cX0_freshRoot 17 = .ok (.aload_n 0, 1) := by decide +kernel
theorem dX0_freshRoot_18 : decode cX0_freshRoot 18 = .ok (.getfield 23, 3) := by decide +kernel
theorem dX0_freshRoot_21 : decode cX0_freshRoot 21 = .ok (.iload_n 1, 1) := by decide +kernel
theorem dX0_freshRoot_22 : decode cX0_freshRoot 22 = .ok (.iconst 1, 1) := by decide +kernel
theorem dX0_freshRoot_23 : decode cX0_freshRoot 23 = .ok (.bastore, 1) := by decide +kernel
theorem dX0_freshRoot_24 : decode cX0_freshRoot 24 = .ok (.aload_n 0, 1) := by decide +kernel
theorem dX0_freshRoot_25 : decode cX0_freshRoot 25 = .ok (.getfield 26, 3) := by decide +kernel
theorem dX0_freshRoot_28 : decode cX0_freshRoot 28 = .ok (.iload_n 1, 1) := by decide +kernel
theorem dX0_freshRoot_29 : decode cX0_freshRoot 29 = .ok (.iconst 0, 1) := by decide +kernel
theorem dX0_freshRoot_30 : decode cX0_freshRoot 30 = .ok (.bastore, 1) := by decide +kernel
theorem dX0_freshRoot_31 : decode cX0_freshRoot 31 = .ok (.iload_n 1, 1) := by decide +kernel
theorem dX0_freshRoot_32 : decode cX0_freshRoot 32 = .ok (.ireturn, 1) := by decide +kernel
theorem dX0_freshRoot_33 : decode cX0_freshRoot 33 = .ok (.iinc 1 1, 3) := by decide +kernel
theorem dX0_freshRoot_36 : decode cX0_freshRoot 36 = .ok (.goto (-34), 3) := by decide +kernel
theorem dX0_freshRoot_39 : decode cX0_freshRoot 39 = .ok (.iconst 0, 1) := by decide +kernel
theorem dX0_freshRoot_40 : decode cX0_freshRoot 40 = .ok (.ireturn, 1) := by decide +kernel
theorem dX0_release_0 : decode cX0_release 0 = .ok (.aload_n 0, 1) := by decide +kernel
theorem dX0_release_1 : decode cX0_release 1 = .ok (.getfield 23, 3) := by decide +kernel
theorem dX0_release_4 : decode cX0_release 4 = .ok (.iload_n 1, 1) := by decide +kernel
theorem dX0_release_5 : decode cX0_release 5 = .ok (.dup2, 1) := by decide +kernel
theorem dX0_release_6 : decode cX0_release 6 = .ok (.baload, 1) := by decide +kernel
theorem dX0_release_7 : decode cX0_release 7 = .ok (.iconst 1, 1) := by decide +kernel
theorem dX0_release_8 : decode cX0_release 8 = .ok (.isub, 1) := by decide +kernel
theorem dX0_release_9 : decode cX0_release 9 = .ok (.i2b, 1) := by decide +kernel
theorem dX0_release_10 : decode cX0_release 10 = .ok (.bastore, 1) := by decide +kernel
theorem dX0_release_11 : decode cX0_release 11 = .ok (.aload_n 0, 1) := by decide +kernel
theorem dX0_release_12 : decode cX0_release 12 = .ok (.getfield 23, 3) := by decide +kernel
theorem dX0_release_15 : decode cX0_release 15 = .ok (.iload_n 1, 1) := by decide +kernel
theorem dX0_release_16 : decode cX0_release 16 = .ok (.baload, 1) := by decide +kernel
theorem dX0_release_17 : decode cX0_release 17 = .ok (.ifCond .ne 42, 3) := by decide +kernel
theorem dX0_release_20 : decode cX0_release 20 = .ok (.iconst 0, 1) := by decide +kernel
theorem dX0_release_21 : decode cX0_release 21 = .ok (.istore_n 2, 1) := by decide +kernel
theorem dX0_release_22 : decode cX0_release 22 = .ok (.iload_n 2, 1) := by decide +kernel
theorem dX0_release_23 : decode cX0_release 23 = .ok (.aload_n 0, 1) := by decide +kernel
theorem dX0_release_24 : decode cX0_release 24 = .ok (.getfield 26, 3) := by decide +kernel
theorem dX0_release_27 : decode cX0_release 27 = .ok (.iload_n 1, 1) := by decide +kernel
theorem dX0_release_28 : decode cX0_release 28 = .ok (.baload, 1) := by decide +kernel
theorem dX0_release_29 : decode cX0_release 29 = .ok (.if_icmp .ge 30, 3) := by decide +kernel
theorem dX0_release_32 : decode cX0_release 32 = .ok (.aload_n 0, 1) := by decide +kernel
theorem dX0_release_33 : decode cX0_release 33 = .ok (.getfield 7, 3) := by decide +kernel
theorem dX0_release_36 : decode cX0_release 36 = .ok (.aload_n 0, 1) := by decide +kernel
theorem dX0_release_37 : decode cX0_release 37 = .ok (.getfield 29, 3) := by decide +kernel
theorem dX0_release_40 : decode cX0_release 40 = .ok (.iload_n 1, 1) := by decide +kernel
theorem dX0_release_41 : decode cX0_release 41 = .ok (.bipush 17, 2) := by decide +kernel
theorem dX0_release_43 : decode cX0_release 43 = .ok (.imul, 1) := by decide +kernel
theorem dX0_release_44 : decode cX0_release 44 = .ok (.iload_n 2, 1) := by decide +kernel
theorem dX0_release_45 : decode cX0_release 45 = .ok (.iadd, 1) := by decide +kernel
theorem dX0_release_46 : decode cX0_release 46 = .ok (.baload, 1) := by decide +kernel
theorem dX0_release_47 : decode cX0_release 47 = .ok (.dup2, 1) := by decide +kernel
theorem dX0_release_48 : decode cX0_release 48 = .ok (.baload, 1) := by decide +kernel
theorem dX0_release_49 : decode cX0_release 49 = .ok (.iconst 1, 1) := by decide +kernel
theorem dX0_release_50 : decode cX0_release 50 = .ok (.isub, 1) := by decide +kernel
theorem dX0_release_51 : decode cX0_release 51 = .ok (.i2b, 1) := by decide +kernel
theorem dX0_release_52 : decode cX0_release 52 = .ok (.bastore, 1) := by decide +kernel
theorem dX0_release_53 : decode cX0_release 53 = .ok (.iinc 2 1, 3) := by decide +kernel
theorem dX0_release_56 : decode cX0_release 56 = .ok (.goto (-34), 3) := by decide +kernel
theorem dX0_release_59 : decode cX0_release 59 = .ok (.return_, 1) := by decide +kernel
theorem dX0_placeOf_0 : decode cX0_placeOf 0 = .ok (.aload_n 0, 1) := by decide +kernel
theorem dX0_placeOf_1 : decode cX0_placeOf 1 = .ok (.getfield 26, 3) := by decide +kernel
theorem dX0_placeOf_4 : decode cX0_placeOf 4 = .ok (.iload_n 1, 1) := by decide +kernel
theorem dX0_placeOf_5 : decode cX0_placeOf 5 = .ok (.baload, 1) := by decide +kernel
theorem dX0_placeOf_6 : decode cX0_placeOf 6 = .ok (.ifCond .le 7, 3) := by decide +kernel
theorem dX0_placeOf_9 : decode cX0_placeOf 9 = .ok (.iconst 0, 1) := by decide +kernel
theorem dX0_placeOf_10 : decode cX0_placeOf 10 = .ok (.goto 4, 3) := by decide +kernel
theorem dX0_placeOf_13 : decode cX0_placeOf 13 = .ok (.iconst (-1), 1) := by decide +kernel
theorem dX0_placeOf_14 : decode cX0_placeOf 14 = .ok (.istore_n 3, 1) := by decide +kernel
theorem dX0_placeOf_15 : decode cX0_placeOf 15 = .ok (.iconst 1, 1) := by decide +kernel
theorem dX0_placeOf_16 : decode cX0_placeOf 16 = .ok (.istore 4, 2) := by decide +kernel
theorem dX0_placeOf_18 : decode cX0_placeOf 18 = .ok (.iload 4, 2) := by decide +kernel
theorem dX0_placeOf_20 : decode cX0_placeOf 20 = .ok (.aload_n 0, 1) := by decide +kernel
theorem dX0_placeOf_21 : decode cX0_placeOf 21 = .ok (.getfield 26, 3) := by decide +kernel
theorem dX0_placeOf_24 : decode cX0_placeOf 24 = .ok (.iload_n 1, 1) := by decide +kernel
theorem dX0_placeOf_25 : decode cX0_placeOf 25 = .ok (.baload, 1) := by decide +kernel
theorem dX0_placeOf_26 : decode cX0_placeOf 26 = .ok (.if_icmp .ge 39, 3) := by decide +kernel
theorem dX0_placeOf_29 : decode cX0_placeOf 29 = .ok (.aload_n 0, 1) := by decide +kernel
theorem dX0_placeOf_30 : decode cX0_placeOf 30 = .ok (.getfield 29, 3) := by decide +kernel
theorem dX0_placeOf_33 : decode cX0_placeOf 33 = .ok (.iload_n 1, 1) := by decide +kernel
theorem dX0_placeOf_34 : decode cX0_placeOf 34 = .ok (.bipush 17, 2) := by decide +kernel
theorem dX0_placeOf_36 : decode cX0_placeOf 36 = .ok (.imul, 1) := by decide +kernel
theorem dX0_placeOf_37 : decode cX0_placeOf 37 = .ok (.iload 4, 2) := by decide +kernel
theorem dX0_placeOf_39 : decode cX0_placeOf 39 = .ok (.iadd, 1) := by decide +kernel
theorem dX0_placeOf_40 : decode cX0_placeOf 40 = .ok (.baload, 1) := by decide +kernel
theorem dX0_placeOf_41 : decode cX0_placeOf 41 = .ok (.istore 5, 2) := by decide +kernel
theorem dX0_placeOf_43 : decode cX0_placeOf 43 = .ok (.aload_n 0, 1) := by decide +kernel
theorem dX0_placeOf_44 : decode cX0_placeOf 44 = .ok (.getfield 16, 3) := by decide +kernel
theorem dX0_placeOf_47 : decode cX0_placeOf 47 = .ok (.iload 5, 2) := by decide +kernel
theorem dX0_placeOf_49 : decode cX0_placeOf 49 = .ok (.iconst 5, 1) := by decide +kernel
theorem dX0_placeOf_50 : decode cX0_placeOf 50 = .ok (.imul, 1) := by decide +kernel
theorem dX0_placeOf_51 : decode cX0_placeOf 51 = .ok (.baload, 1) := by decide +kernel
theorem dX0_placeOf_52 : decode cX0_placeOf 52 = .ok (.iload_n 2, 1) := by decide +kernel
theorem dX0_placeOf_53 : decode cX0_placeOf 53 = .ok (.if_icmp .gt 6, 3) := by decide +kernel
theorem dX0_placeOf_56 : decode cX0_placeOf 56 = .ok (.iload 4, 2) := by decide +kernel
theorem dX0_placeOf_58 : decode cX0_placeOf 58 = .ok (.istore_n 3, 1) := by decide +kernel
theorem dX0_placeOf_59 : decode cX0_placeOf 59 = .ok (.iinc 4 1, 3) := by decide +kernel
theorem dX0_placeOf_62 : decode cX0_placeOf 62 = .ok (.goto (-44), 3) := by decide +kernel
theorem dX0_placeOf_65 : decode cX0_placeOf 65 = .ok (.iload_n 3, 1) := by decide +kernel
theorem dX0_placeOf_66 : decode cX0_placeOf 66 = .ok (.ireturn, 1) := by decide +kernel
theorem dX0_freshLeaf_0 : decode cX0_freshLeaf 0 = .ok (.iconst 0, 1) := by decide +kernel
theorem dX0_freshLeaf_1 : decode cX0_freshLeaf 1 = .ok (.istore_n 1, 1) := by decide +kernel
theorem dX0_freshLeaf_2 : decode cX0_freshLeaf 2 = .ok (.iload_n 1, 1) := by decide +kernel
theorem dX0_freshLeaf_3 : decode cX0_freshLeaf 3 = .ok (.bipush 96, 2) := by decide +kernel
theorem dX0_freshLeaf_5 : decode cX0_freshLeaf 5 = .ok (.if_icmp .ge 34, 3) := by decide +kernel
theorem dX0_freshLeaf_8 : decode cX0_freshLeaf 8 = .ok (.aload_n 0, 1) := by decide +kernel
theorem dX0_freshLeaf_9 : decode cX0_freshLeaf 9 = .ok (.getfield 7, 3) := by decide +kernel
theorem dX0_freshLeaf_12 : decode cX0_freshLeaf 12 = .ok (.iload_n 1, 1) := by decide +kernel
theorem dX0_freshLeaf_13 : decode cX0_freshLeaf 13 = .ok (.baload, 1) := by decide +kernel
theorem dX0_freshLeaf_14 : decode cX0_freshLeaf 14 = .ok (.ifCond .ne 19, 3) := by decide +kernel
theorem dX0_freshLeaf_17 : decode cX0_freshLeaf 17 = .ok (.aload_n 0, 1) := by decide +kernel
theorem dX0_freshLeaf_18 : decode cX0_freshLeaf 18 = .ok (.getfield 7, 3) := by decide +kernel
theorem dX0_freshLeaf_21 : decode cX0_freshLeaf 21 = .ok (.iload_n 1, 1) := by decide +kernel
theorem dX0_freshLeaf_22 : decode cX0_freshLeaf 22 = .ok (.iconst 1, 1) := by decide +kernel
theorem dX0_freshLeaf_23 : decode cX0_freshLeaf 23 = .ok (.bastore, 1) := by decide +kernel
theorem dX0_freshLeaf_24 : decode cX0_freshLeaf 24 = .ok (.aload_n 0, 1) := by decide +kernel
theorem dX0_freshLeaf_25 : decode cX0_freshLeaf 25 = .ok (.getfield 13, 3) := by decide +kernel
theorem dX0_freshLeaf_28 : decode cX0_freshLeaf 28 = .ok (.iload_n 1, 1) := by decide +kernel
theorem dX0_freshLeaf_29 : decode cX0_freshLeaf 29 = .ok (.iconst 0, 1) := by decide +kernel
theorem dX0_freshLeaf_30 : decode cX0_freshLeaf 30 = .ok (.bastore, 1) := by decide +kernel
theorem dX0_freshLeaf_31 : decode cX0_freshLeaf 31 = .ok (.iload_n 1, 1) := by decide +kernel
theorem dX0_freshLeaf_32 : decode cX0_freshLeaf 32 = .ok (.ireturn, 1) := by decide +kernel
theorem dX0_freshLeaf_33 : decode cX0_freshLeaf 33 = .ok (.iinc 1 1, 3) := by decide +kernel
theorem dX0_freshLeaf_36 : decode cX0_freshLeaf 36 = .ok (.goto (-34), 3) := by decide +kernel
theorem dX0_freshLeaf_39 : decode cX0_freshLeaf 39 = .ok (.iconst 0, 1) := by decide +kernel
theorem dX0_freshLeaf_40 : decode cX0_freshLeaf 40 = .ok (.ireturn, 1) := by decide +kernel
theorem dX0_insertLeaf_0 : decode cX0_insertLeaf 0 = .ok (.aload_n 0, 1) := by decide +kernel
theorem dX0_insertLeaf_1 : decode cX0_insertLeaf 1 = .ok (.getfield 26, 3) := by decide +kernel
theorem dX0_insertLeaf_4 : decode cX0_insertLeaf 4 = .ok (.aload_n 0, 1) := by decide +kernel
theorem dX0_insertLeaf_5 : decode cX0_insertLeaf 5 = .ok (.getfield 39, 3) := by decide +kernel
theorem dX0_insertLeaf_8 : decode cX0_insertLeaf 8 = .ok (.baload, 1) := by decide +kernel
theorem dX0_insertLeaf_9 : decode cX0_insertLeaf 9 = .ok (.istore_n 3, 1) := by decide +kernel
theorem dX0_insertLeaf_10 : decode cX0_insertLeaf 10 = .ok (.iload_n 3, 1) := by decide +kernel
theorem dX0_insertLeaf_11 : decode cX0_insertLeaf 11 = .ok (.iload_n 1, 1) := by decide +kernel
theorem dX0_insertLeaf_12 : decode cX0_insertLeaf 12 = .ok (.if_icmp .le 39, 3) := by decide +kernel
theorem dX0_insertLeaf_15 : decode cX0_insertLeaf 15 = .ok (.aload_n 0, 1) := by decide +kernel
theorem dX0_insertLeaf_16 : decode cX0_insertLeaf 16 = .ok (.getfield 29, 3) := by decide +kernel
theorem dX0_insertLeaf_19 : decode cX0_insertLeaf 19 = .ok (.aload_n 0, 1) := by decide +kernel
theorem dX0_insertLeaf_20 : decode cX0_insertLeaf 20 = .ok (.getfield 39, 3) := by decide +kernel
theorem dX0_insertLeaf_23 : decode cX0_insertLeaf 23 = .ok (.bipush 17, 2) := by decide +kernel
theorem dX0_insertLeaf_25 : decode cX0_insertLeaf 25 = .ok (.imul, 1) := by decide +kernel
theorem dX0_insertLeaf_26 : decode cX0_insertLeaf 26 = .ok (.iload_n 3, 1) := by decide +kernel
theorem dX0_insertLeaf_27 : decode cX0_insertLeaf 27 = .ok (.iadd, 1) := by decide +kernel
theorem dX0_insertLeaf_28 : decode cX0_insertLeaf 28 = .ok (.aload_n 0, 1) := by decide +kernel
theorem dX0_insertLeaf_29 : decode cX0_insertLeaf 29 = .ok (.getfield 29, 3) := by decide +kernel
theorem dX0_insertLeaf_32 : decode cX0_insertLeaf 32 = .ok (.aload_n 0, 1) := by decide +kernel
theorem dX0_insertLeaf_33 : decode cX0_insertLeaf 33 = .ok (.getfield 39, 3) := by decide +kernel
theorem dX0_insertLeaf_36 : decode cX0_insertLeaf 36 = .ok (.bipush 17, 2) := by decide +kernel
theorem dX0_insertLeaf_38 : decode cX0_insertLeaf 38 = .ok (.imul, 1) := by decide +kernel
theorem dX0_insertLeaf_39 : decode cX0_insertLeaf 39 = .ok (.iload_n 3, 1) := by decide +kernel
theorem dX0_insertLeaf_40 : decode cX0_insertLeaf 40 = .ok (.iadd, 1) := by decide +kernel
theorem dX0_insertLeaf_41 : decode cX0_insertLeaf 41 = .ok (.iconst 1, 1) := by decide +kernel
theorem dX0_insertLeaf_42 : decode cX0_insertLeaf 42 = .ok (.isub, 1) := by decide +kernel
theorem dX0_insertLeaf_43 : decode cX0_insertLeaf 43 = .ok (.baload, 1) := by decide +kernel
theorem dX0_insertLeaf_44 : decode cX0_insertLeaf 44 = .ok (.bastore, 1) := by decide +kernel
theorem dX0_insertLeaf_45 : decode cX0_insertLeaf 45 = .ok (.iinc 3 (-1), 3) := by decide +kernel
theorem dX0_insertLeaf_48 : decode cX0_insertLeaf 48 = .ok (.goto (-38), 3) := by decide +kernel
theorem dX0_insertLeaf_51 : decode cX0_insertLeaf 51 = .ok (.aload_n 0, 1) := by decide +kernel
theorem dX0_insertLeaf_52 : decode cX0_insertLeaf 52 = .ok (.getfield 29, 3) := by decide +kernel
theorem dX0_insertLeaf_55 : decode cX0_insertLeaf 55 = .ok (.aload_n 0, 1) := by decide +kernel
theorem dX0_insertLeaf_56 : decode cX0_insertLeaf 56 = .ok (.getfield 39, 3) := by decide +kernel
theorem dX0_insertLeaf_59 : decode cX0_insertLeaf 59 = .ok (.bipush 17, 2) := by decide +kernel
theorem dX0_insertLeaf_61 : decode cX0_insertLeaf 61 = .ok (.imul, 1) := by decide +kernel
theorem dX0_insertLeaf_62 : decode cX0_insertLeaf 62 = .ok (.iload_n 1, 1) := by decide +kernel
theorem dX0_insertLeaf_63 : decode cX0_insertLeaf 63 = .ok (.iadd, 1) := by decide +kernel
theorem dX0_insertLeaf_64 : decode cX0_insertLeaf 64 = .ok (.iload_n 2, 1) := by decide +kernel
theorem dX0_insertLeaf_65 : decode cX0_insertLeaf 65 = .ok (.i2b, 1) := by decide +kernel
theorem dX0_insertLeaf_66 : decode cX0_insertLeaf 66 = .ok (.bastore, 1) := by decide +kernel
theorem dX0_insertLeaf_67 : decode cX0_insertLeaf 67 = .ok (.aload_n 0, 1) := by decide +kernel
theorem dX0_insertLeaf_68 : decode cX0_insertLeaf 68 = .ok (.getfield 26, 3) := by decide +kernel
theorem dX0_insertLeaf_71 : decode cX0_insertLeaf 71 = .ok (.aload_n 0, 1) := by decide +kernel
theorem dX0_insertLeaf_72 : decode cX0_insertLeaf 72 = .ok (.getfield 39, 3) := by decide +kernel
theorem dX0_insertLeaf_75 : decode cX0_insertLeaf 75 = .ok (.dup2, 1) := by decide +kernel
theorem dX0_insertLeaf_76 : decode cX0_insertLeaf 76 = .ok (.baload, 1) := by decide +kernel
theorem dX0_insertLeaf_77 : decode cX0_insertLeaf 77 = .ok (.iconst 1, 1) := by decide +kernel
theorem dX0_insertLeaf_78 : decode cX0_insertLeaf 78 = .ok (.iadd, 1) := by decide +kernel
theorem dX0_insertLeaf_79 : decode cX0_insertLeaf 79 = .ok (.i2b, 1) := by decide +kernel
theorem dX0_insertLeaf_80 : decode cX0_insertLeaf 80 = .ok (.bastore, 1) := by decide +kernel
theorem dX0_insertLeaf_81 : decode cX0_insertLeaf 81 = .ok (.return_, 1) := by decide +kernel
theorem dX0_ownLeaf_0 : decode cX0_ownLeaf 0 = .ok (.aload_n 0, 1) := by decide +kernel
theorem dX0_ownLeaf_1 : decode cX0_ownLeaf 1 = .ok (.getfield 29, 3) := by decide +kernel
theorem dX0_ownLeaf_4 : decode cX0_ownLeaf 4 = .ok (.aload_n 0, 1) := by decide +kernel
theorem dX0_ownLeaf_5 : decode cX0_ownLeaf 5 = .ok (.getfield 39, 3) := by decide +kernel
theorem dX0_ownLeaf_8 : decode cX0_ownLeaf 8 = .ok (.bipush 17, 2) := by decide +kernel
theorem dX0_ownLeaf_10 : decode cX0_ownLeaf 10 = .ok (.imul, 1) := by decide +kernel
theorem dX0_ownLeaf_11 : decode cX0_ownLeaf 11 = .ok (.iload_n 1, 1) := by decide +kernel
theorem dX0_ownLeaf_12 : decode cX0_ownLeaf 12 = .ok (.iadd, 1) := by decide +kernel
theorem dX0_ownLeaf_13 : decode cX0_ownLeaf 13 = .ok (.baload, 1) := by decide +kernel
theorem dX0_ownLeaf_14 : decode cX0_ownLeaf 14 = .ok (.istore_n 2, 1) := by decide +kernel
theorem dX0_ownLeaf_15 : decode cX0_ownLeaf 15 = .ok (.aload_n 0, 1) := by decide +kernel
theorem dX0_ownLeaf_16 : decode cX0_ownLeaf 16 = .ok (.getfield 7, 3) := by decide +kernel
theorem dX0_ownLeaf_19 : decode cX0_ownLeaf 19 = .ok (.iload_n 2, 1) := by decide +kernel
theorem dX0_ownLeaf_20 : decode cX0_ownLeaf 20 = .ok (.baload, 1) := by decide +kernel
theorem dX0_ownLeaf_21 : decode cX0_ownLeaf 21 = .ok (.iconst 1, 1) := by decide +kernel
theorem dX0_ownLeaf_22 : decode cX0_ownLeaf 22 = .ok (.if_icmp .ne 5, 3) := by decide +kernel
theorem dX0_ownLeaf_25 : decode cX0_ownLeaf 25 = .ok (.iload_n 2, 1) := by decide +kernel
theorem dX0_ownLeaf_26 : decode cX0_ownLeaf 26 = .ok (.ireturn, 1) := by decide +kernel
theorem dX0_ownLeaf_27 : decode cX0_ownLeaf 27 = .ok (.aload_n 0, 1) := by decide +kernel
theorem dX0_ownLeaf_28 : decode cX0_ownLeaf 28 = .ok (.invokevirtual 50, 3) := by decide +kernel
theorem dX0_ownLeaf_31 : decode cX0_ownLeaf 31 = .ok (.istore_n 3, 1) := by decide +kernel
theorem dX0_ownLeaf_32 : decode cX0_ownLeaf 32 = .ok (.aload_n 0, 1) := by decide +kernel
theorem dX0_ownLeaf_33 : decode cX0_ownLeaf 33 = .ok (.getfield 13, 3) := by decide +kernel
theorem dX0_ownLeaf_36 : decode cX0_ownLeaf 36 = .ok (.iload_n 3, 1) := by decide +kernel
theorem dX0_ownLeaf_37 : decode cX0_ownLeaf 37 = .ok (.aload_n 0, 1) := by decide +kernel
theorem dX0_ownLeaf_38 : decode cX0_ownLeaf 38 = .ok (.getfield 13, 3) := by decide +kernel
theorem dX0_ownLeaf_41 : decode cX0_ownLeaf 41 = .ok (.iload_n 2, 1) := by decide +kernel
theorem dX0_ownLeaf_42 : decode cX0_ownLeaf 42 = .ok (.baload, 1) := by decide +kernel
theorem dX0_ownLeaf_43 : decode cX0_ownLeaf 43 = .ok (.bastore, 1) := by decide +kernel
theorem dX0_ownLeaf_44 : decode cX0_ownLeaf 44 = .ok (.iconst 0, 1) := by decide +kernel
theorem dX0_ownLeaf_45 : decode cX0_ownLeaf 45 = .ok (.istore 4, 2) := by decide +kernel
theorem dX0_ownLeaf_47 : decode cX0_ownLeaf 47 = .ok (.iload 4, 2) := by decide +kernel
theorem dX0_ownLeaf_49 : decode cX0_ownLeaf 49 = .ok (.aload_n 0, 1) := by decide +kernel
theorem dX0_ownLeaf_50 : decode cX0_ownLeaf 50 = .ok (.getfield 13, 3) := by decide +kernel
theorem dX0_ownLeaf_53 : decode cX0_ownLeaf 53 = .ok (.iload_n 2, 1) := by decide +kernel
theorem dX0_ownLeaf_54 : decode cX0_ownLeaf 54 = .ok (.baload, 1) := by decide +kernel
theorem dX0_ownLeaf_55 : decode cX0_ownLeaf 55 = .ok (.if_icmp .ge 19, 3) := by decide +kernel
theorem dX0_ownLeaf_58 : decode cX0_ownLeaf 58 = .ok (.aload_n 0, 1) := by decide +kernel
theorem dX0_ownLeaf_59 : decode cX0_ownLeaf 59 = .ok (.iload_n 2, 1) := by decide +kernel
theorem dX0_ownLeaf_60 : decode cX0_ownLeaf 60 = .ok (.iload 4, 2) := by decide +kernel
theorem dX0_ownLeaf_62 : decode cX0_ownLeaf 62 = .ok (.iload_n 3, 1) := by decide +kernel
theorem dX0_ownLeaf_63 : decode cX0_ownLeaf 63 = .ok (.iload 4, 2) := by decide +kernel
theorem dX0_ownLeaf_65 : decode cX0_ownLeaf 65 = .ok (.invokevirtual 53, 3) := by decide +kernel
theorem dX0_ownLeaf_68 : decode cX0_ownLeaf 68 = .ok (.iinc 4 1, 3) := by decide +kernel
theorem dX0_ownLeaf_71 : decode cX0_ownLeaf 71 = .ok (.goto (-24), 3) := by decide +kernel
theorem dX0_ownLeaf_74 : decode cX0_ownLeaf 74 = .ok (.aload_n 0, 1) := by decide +kernel
theorem dX0_ownLeaf_75 : decode cX0_ownLeaf 75 = .ok (.getfield 7, 3) := by decide +kernel
theorem dX0_ownLeaf_78 : decode cX0_ownLeaf 78 = .ok (.iload_n 2, 1) := by decide +kernel
theorem dX0_ownLeaf_79 : decode cX0_ownLeaf 79 = .ok (.dup2, 1) := by decide +kernel
theorem dX0_ownLeaf_80 : decode cX0_ownLeaf 80 = .ok (.baload, 1) := by decide +kernel
theorem dX0_ownLeaf_81 : decode cX0_ownLeaf 81 = .ok (.iconst 1, 1) := by decide +kernel
theorem dX0_ownLeaf_82 : decode cX0_ownLeaf 82 = .ok (.isub, 1) := by decide +kernel
theorem dX0_ownLeaf_83 : decode cX0_ownLeaf 83 = .ok (.i2b, 1) := by decide +kernel
theorem dX0_ownLeaf_84 : decode cX0_ownLeaf 84 = .ok (.bastore, 1) := by decide +kernel
theorem dX0_ownLeaf_85 : decode cX0_ownLeaf 85 = .ok (.aload_n 0, 1) := by decide +kernel
theorem dX0_ownLeaf_86 : decode cX0_ownLeaf 86 = .ok (.getfield 29, 3) := by decide +kernel
theorem dX0_ownLeaf_89 : decode cX0_ownLeaf 89 = .ok (.aload_n 0, 1) := by decide +kernel
theorem dX0_ownLeaf_90 : decode cX0_ownLeaf 90 = .ok (.getfield 39, 3) := by decide +kernel
theorem dX0_ownLeaf_93 : decode cX0_ownLeaf 93 = .ok (.bipush 17, 2) := by decide +kernel
theorem dX0_ownLeaf_95 : decode cX0_ownLeaf 95 = .ok (.imul, 1) := by decide +kernel
theorem dX0_ownLeaf_96 : decode cX0_ownLeaf 96 = .ok (.iload_n 1, 1) := by decide +kernel
theorem dX0_ownLeaf_97 : decode cX0_ownLeaf 97 = .ok (.iadd, 1) := by decide +kernel
theorem dX0_ownLeaf_98 : decode cX0_ownLeaf 98 = .ok (.iload_n 3, 1) := by decide +kernel
theorem dX0_ownLeaf_99 : decode cX0_ownLeaf 99 = .ok (.i2b, 1) := by decide +kernel
theorem dX0_ownLeaf_100 : decode cX0_ownLeaf 100 = .ok (.bastore, 1) := by decide +kernel
theorem dX0_ownLeaf_101 : decode cX0_ownLeaf 101 = .ok (.iload_n 3, 1) := by decide +kernel
theorem dX0_ownLeaf_102 : decode cX0_ownLeaf 102 = .ok (.ireturn, 1) := by decide +kernel
theorem dX0_copyEntry_0 : decode cX0_copyEntry 0 = .ok (.aload_n 0, 1) := by decide +kernel
theorem dX0_copyEntry_1 : decode cX0_copyEntry 1 = .ok (.getfield 16, 3) := by decide +kernel
theorem dX0_copyEntry_4 : decode cX0_copyEntry 4 = .ok (.iload_n 3, 1) := by decide +kernel
theorem dX0_copyEntry_5 : decode cX0_copyEntry 5 = .ok (.iconst 5, 1) := by decide +kernel
theorem dX0_copyEntry_6 : decode cX0_copyEntry 6 = .ok (.imul, 1) := by decide +kernel
theorem dX0_copyEntry_7 : decode cX0_copyEntry 7 = .ok (.iload 4, 2) := by decide +kernel
theorem dX0_copyEntry_9 : decode cX0_copyEntry 9 = .ok (.iadd, 1) := by decide +kernel
theorem dX0_copyEntry_10 : decode cX0_copyEntry 10 = .ok (.aload_n 0, 1) := by decide +kernel
theorem dX0_copyEntry_11 : decode cX0_copyEntry 11 = .ok (.getfield 16, 3) := by decide +kernel
theorem dX0_copyEntry_14 : decode cX0_copyEntry 14 = .ok (.iload_n 1, 1) := by decide +kernel
theorem dX0_copyEntry_15 : decode cX0_copyEntry 15 = .ok (.iconst 5, 1) := by decide +kernel
theorem dX0_copyEntry_16 : decode cX0_copyEntry 16 = .ok (.imul, 1) := by decide +kernel
theorem dX0_copyEntry_17 : decode cX0_copyEntry 17 = .ok (.iload_n 2, 1) := by decide +kernel
theorem dX0_copyEntry_18 : decode cX0_copyEntry 18 = .ok (.iadd, 1) := by decide +kernel
theorem dX0_copyEntry_19 : decode cX0_copyEntry 19 = .ok (.baload, 1) := by decide +kernel
theorem dX0_copyEntry_20 : decode cX0_copyEntry 20 = .ok (.bastore, 1) := by decide +kernel
theorem dX0_copyEntry_21 : decode cX0_copyEntry 21 = .ok (.aload_n 0, 1) := by decide +kernel
theorem dX0_copyEntry_22 : decode cX0_copyEntry 22 = .ok (.getfield 19, 3) := by decide +kernel
theorem dX0_copyEntry_25 : decode cX0_copyEntry 25 = .ok (.iload_n 3, 1) := by decide +kernel
theorem dX0_copyEntry_26 : decode cX0_copyEntry 26 = .ok (.iconst 5, 1) := by decide +kernel
theorem dX0_copyEntry_27 : decode cX0_copyEntry 27 = .ok (.imul, 1) := by decide +kernel
theorem dX0_copyEntry_28 : decode cX0_copyEntry 28 = .ok (.iload 4, 2) := by decide +kernel
theorem dX0_copyEntry_30 : decode cX0_copyEntry 30 = .ok (.iadd, 1) := by decide +kernel
theorem dX0_copyEntry_31 : decode cX0_copyEntry 31 = .ok (.aload_n 0, 1) := by decide +kernel
theorem dX0_copyEntry_32 : decode cX0_copyEntry 32 = .ok (.getfield 19, 3) := by decide +kernel
theorem dX0_copyEntry_35 : decode cX0_copyEntry 35 = .ok (.iload_n 1, 1) := by decide +kernel
theorem dX0_copyEntry_36 : decode cX0_copyEntry 36 = .ok (.iconst 5, 1) := by decide +kernel
theorem dX0_copyEntry_37 : decode cX0_copyEntry 37 = .ok (.imul, 1) := by decide +kernel
theorem dX0_copyEntry_38 : decode cX0_copyEntry 38 = .ok (.iload_n 2, 1) := by decide +kernel
theorem dX0_copyEntry_39 : decode cX0_copyEntry 39 = .ok (.iadd, 1) := by decide +kernel
theorem dX0_copyEntry_40 : decode cX0_copyEntry 40 = .ok (.iaload, 1) := by decide +kernel
theorem dX0_copyEntry_41 : decode cX0_copyEntry 41 = .ok (.iastore, 1) := by decide +kernel
theorem dX0_copyEntry_42 : decode cX0_copyEntry 42 = .ok (.return_, 1) := by decide +kernel
theorem dX0_below_0 : decode cX0_below 0 = .ok (.iconst 0, 1) := by decide +kernel
theorem dX0_below_1 : decode cX0_below 1 = .ok (.istore_n 3, 1) := by decide +kernel
theorem dX0_below_2 : decode cX0_below 2 = .ok (.iload_n 3, 1) := by decide +kernel
theorem dX0_below_3 : decode cX0_below 3 = .ok (.aload_n 0, 1) := by decide +kernel
theorem dX0_below_4 : decode cX0_below 4 = .ok (.getfield 13, 3) := by decide +kernel
theorem dX0_below_7 : decode cX0_below 7 = .ok (.iload_n 1, 1) := by decide +kernel
theorem dX0_below_8 : decode cX0_below 8 = .ok (.baload, 1) := by decide +kernel
theorem dX0_below_9 : decode cX0_below 9 = .ok (.if_icmp .ge 23, 3) := by decide +kernel
theorem dX0_below_12 : decode cX0_below 12 = .ok (.aload_n 0, 1) := by decide +kernel
theorem dX0_below_13 : decode cX0_below 13 = .ok (.getfield 16, 3) := by decide +kernel
theorem dX0_below_16 : decode cX0_below 16 = .ok (.iload_n 1, 1) := by decide +kernel
theorem dX0_below_17 : decode cX0_below 17 = .ok (.iconst 5, 1) := by decide +kernel
theorem dX0_below_18 : decode cX0_below 18 = .ok (.imul, 1) := by decide +kernel
theorem dX0_below_19 : decode cX0_below 19 = .ok (.iload_n 3, 1) := by decide +kernel
theorem dX0_below_20 : decode cX0_below 20 = .ok (.iadd, 1) := by decide +kernel
end
section
set_option maxRecDepth 100000
theorem dX0_below_21 : decode cX0_below 21 = .ok (.baload, 1) := by decide +kernel
theorem dX0_below_22 : decode cX0_below 22 = .ok (.iload_n 2, 1) := by decide +kernel
theorem dX0_below_23 : decode cX0_below 23 = .ok (.if_icmp .ge 9, 3) := by decide +kernel
theorem dX0_below_26 : decode cX0_below 26 = .ok (.iinc 3 1, 3) := by decide +kernel
theorem dX0_below_29 : decode cX0_below 29 = .ok (.goto (-27), 3) := by decide +kernel
theorem dX0_below_32 : decode cX0_below 32 = .ok (.iload_n 3, 1) := by decide +kernel
theorem dX0_below_33 : decode cX0_below 33 = .ok (.ireturn, 1) := by decide +kernel
theorem dX0_split_0 : decode cX0_split 0 = .ok (.aload_n 0, 1) := by decide +kernel
theorem dX0_split_1 : decode cX0_split 1 = .ok (.invokevirtual 50, 3) := by decide +kernel
theorem dX0_split_4 : decode cX0_split 4 = .ok (.istore_n 3, 1) := by decide +kernel
theorem dX0_split_5 : decode cX0_split 5 = .ok (.aload_n 0, 1) := by decide +kernel
theorem dX0_split_6 : decode cX0_split 6 = .ok (.iload_n 2, 1) := by decide +kernel
theorem dX0_split_7 : decode cX0_split 7 = .ok (.iconst 3, 1) := by decide +kernel
theorem dX0_split_8 : decode cX0_split 8 = .ok (.iload_n 3, 1) := by decide +kernel
theorem dX0_split_9 : decode cX0_split 9 = .ok (.iconst 0, 1) := by decide +kernel
theorem dX0_split_10 : decode cX0_split 10 = .ok (.invokevirtual 53, 3) := by decide +kernel
theorem dX0_split_13 : decode cX0_split 13 = .ok (.aload_n 0, 1) := by decide +kernel
theorem dX0_split_14 : decode cX0_split 14 = .ok (.iload_n 2, 1) := by decide +kernel
theorem dX0_split_15 : decode cX0_split 15 = .ok (.iconst 4, 1) := by decide +kernel
theorem dX0_split_16 : decode cX0_split 16 = .ok (.iload_n 3, 1) := by decide +kernel
theorem dX0_split_17 : decode cX0_split 17 = .ok (.iconst 1, 1) := by decide +kernel
theorem dX0_split_18 : decode cX0_split 18 = .ok (.invokevirtual 53, 3) := by decide +kernel
theorem dX0_split_21 : decode cX0_split 21 = .ok (.aload_n 0, 1) := by decide +kernel
theorem dX0_split_22 : decode cX0_split 22 = .ok (.getfield 13, 3) := by decide +kernel
theorem dX0_split_25 : decode cX0_split 25 = .ok (.iload_n 3, 1) := by decide +kernel
theorem dX0_split_26 : decode cX0_split 26 = .ok (.iconst 2, 1) := by decide +kernel
theorem dX0_split_27 : decode cX0_split 27 = .ok (.bastore, 1) := by decide +kernel
theorem dX0_split_28 : decode cX0_split 28 = .ok (.aload_n 0, 1) := by decide +kernel
theorem dX0_split_29 : decode cX0_split 29 = .ok (.getfield 13, 3) := by decide +kernel
theorem dX0_split_32 : decode cX0_split 32 = .ok (.iload_n 2, 1) := by decide +kernel
theorem dX0_split_33 : decode cX0_split 33 = .ok (.iconst 3, 1) := by decide +kernel
theorem dX0_split_34 : decode cX0_split 34 = .ok (.bastore, 1) := by decide +kernel
theorem dX0_split_35 : decode cX0_split 35 = .ok (.aload_n 0, 1) := by decide +kernel
theorem dX0_split_36 : decode cX0_split 36 = .ok (.iload_n 1, 1) := by decide +kernel
theorem dX0_split_37 : decode cX0_split 37 = .ok (.iconst 1, 1) := by decide +kernel
theorem dX0_split_38 : decode cX0_split 38 = .ok (.iadd, 1) := by decide +kernel
theorem dX0_split_39 : decode cX0_split 39 = .ok (.iload_n 3, 1) := by decide +kernel
theorem dX0_split_40 : decode cX0_split 40 = .ok (.invokevirtual 67, 3) := by decide +kernel
theorem dX0_split_43 : decode cX0_split 43 = .ok (.return_, 1) := by decide +kernel
theorem dX0_remove_0 : decode cX0_remove 0 = .ok (.aload_n 0, 1) := by decide +kernel
theorem dX0_remove_1 : decode cX0_remove 1 = .ok (.aload_n 0, 1) := by decide +kernel
theorem dX0_remove_2 : decode cX0_remove 2 = .ok (.getfield 39, 3) := by decide +kernel
theorem dX0_remove_5 : decode cX0_remove 5 = .ok (.iload_n 1, 1) := by decide +kernel
theorem dX0_remove_6 : decode cX0_remove 6 = .ok (.invokevirtual 78, 3) := by decide +kernel
theorem dX0_remove_9 : decode cX0_remove 9 = .ok (.ifCond .ge 5, 3) := by decide +kernel
theorem dX0_remove_12 : decode cX0_remove 12 = .ok (.iconst 0, 1) := by decide +kernel
theorem dX0_remove_13 : decode cX0_remove 13 = .ok (.ireturn, 1) := by decide +kernel
theorem dX0_remove_14 : decode cX0_remove 14 = .ok (.aload_n 0, 1) := by decide +kernel
theorem dX0_remove_15 : decode cX0_remove 15 = .ok (.invokevirtual 64, 3) := by decide +kernel
theorem dX0_remove_18 : decode cX0_remove 18 = .ok (.aload_n 0, 1) := by decide +kernel
theorem dX0_remove_19 : decode cX0_remove 19 = .ok (.aload_n 0, 1) := by decide +kernel
theorem dX0_remove_20 : decode cX0_remove 20 = .ok (.getfield 39, 3) := by decide +kernel
theorem dX0_remove_23 : decode cX0_remove 23 = .ok (.iload_n 1, 1) := by decide +kernel
theorem dX0_remove_24 : decode cX0_remove 24 = .ok (.invokevirtual 57, 3) := by decide +kernel
theorem dX0_remove_27 : decode cX0_remove 27 = .ok (.istore_n 2, 1) := by decide +kernel
theorem dX0_remove_28 : decode cX0_remove 28 = .ok (.aload_n 0, 1) := by decide +kernel
theorem dX0_remove_29 : decode cX0_remove 29 = .ok (.iload_n 2, 1) := by decide +kernel
theorem dX0_remove_30 : decode cX0_remove 30 = .ok (.invokevirtual 71, 3) := by decide +kernel
theorem dX0_remove_33 : decode cX0_remove 33 = .ok (.istore_n 3, 1) := by decide +kernel
theorem dX0_remove_34 : decode cX0_remove 34 = .ok (.aload_n 0, 1) := by decide +kernel
theorem dX0_remove_35 : decode cX0_remove 35 = .ok (.iload_n 3, 1) := by decide +kernel
theorem dX0_remove_36 : decode cX0_remove 36 = .ok (.iload_n 1, 1) := by decide +kernel
theorem dX0_remove_37 : decode cX0_remove 37 = .ok (.invokevirtual 61, 3) := by decide +kernel
theorem dX0_remove_40 : decode cX0_remove 40 = .ok (.istore 4, 2) := by decide +kernel
theorem dX0_remove_42 : decode cX0_remove 42 = .ok (.aload_n 0, 1) := by decide +kernel
theorem dX0_remove_43 : decode cX0_remove 43 = .ok (.getfield 13, 3) := by decide +kernel
theorem dX0_remove_46 : decode cX0_remove 46 = .ok (.iload_n 3, 1) := by decide +kernel
theorem dX0_remove_47 : decode cX0_remove 47 = .ok (.dup2, 1) := by decide +kernel
theorem dX0_remove_48 : decode cX0_remove 48 = .ok (.baload, 1) := by decide +kernel
theorem dX0_remove_49 : decode cX0_remove 49 = .ok (.iconst 1, 1) := by decide +kernel
theorem dX0_remove_50 : decode cX0_remove 50 = .ok (.isub, 1) := by decide +kernel
theorem dX0_remove_51 : decode cX0_remove 51 = .ok (.i2b, 1) := by decide +kernel
theorem dX0_remove_52 : decode cX0_remove 52 = .ok (.bastore, 1) := by decide +kernel
theorem dX0_remove_53 : decode cX0_remove 53 = .ok (.iload 4, 2) := by decide +kernel
theorem dX0_remove_55 : decode cX0_remove 55 = .ok (.istore 5, 2) := by decide +kernel
theorem dX0_remove_57 : decode cX0_remove 57 = .ok (.iload 5, 2) := by decide +kernel
theorem dX0_remove_59 : decode cX0_remove 59 = .ok (.aload_n 0, 1) := by decide +kernel
theorem dX0_remove_60 : decode cX0_remove 60 = .ok (.getfield 13, 3) := by decide +kernel
theorem dX0_remove_63 : decode cX0_remove 63 = .ok (.iload_n 3, 1) := by decide +kernel
theorem dX0_remove_64 : decode cX0_remove 64 = .ok (.baload, 1) := by decide +kernel
theorem dX0_remove_65 : decode cX0_remove 65 = .ok (.if_icmp .ge 21, 3) := by decide +kernel
theorem dX0_remove_68 : decode cX0_remove 68 = .ok (.aload_n 0, 1) := by decide +kernel
theorem dX0_remove_69 : decode cX0_remove 69 = .ok (.iload_n 3, 1) := by decide +kernel
theorem dX0_remove_70 : decode cX0_remove 70 = .ok (.iload 5, 2) := by decide +kernel
theorem dX0_remove_72 : decode cX0_remove 72 = .ok (.iconst 1, 1) := by decide +kernel
theorem dX0_remove_73 : decode cX0_remove 73 = .ok (.iadd, 1) := by decide +kernel
theorem dX0_remove_74 : decode cX0_remove 74 = .ok (.iload_n 3, 1) := by decide +kernel
theorem dX0_remove_75 : decode cX0_remove 75 = .ok (.iload 5, 2) := by decide +kernel
theorem dX0_remove_77 : decode cX0_remove 77 = .ok (.invokevirtual 53, 3) := by decide +kernel
theorem dX0_remove_80 : decode cX0_remove 80 = .ok (.iinc 5 1, 3) := by decide +kernel
theorem dX0_remove_83 : decode cX0_remove 83 = .ok (.goto (-26), 3) := by decide +kernel
theorem dX0_remove_86 : decode cX0_remove 86 = .ok (.aload_n 0, 1) := by decide +kernel
theorem dX0_remove_87 : decode cX0_remove 87 = .ok (.getfield 13, 3) := by decide +kernel
theorem dX0_remove_90 : decode cX0_remove 90 = .ok (.iload_n 3, 1) := by decide +kernel
theorem dX0_remove_91 : decode cX0_remove 91 = .ok (.baload, 1) := by decide +kernel
theorem dX0_remove_92 : decode cX0_remove 92 = .ok (.iconst 2, 1) := by decide +kernel
theorem dX0_remove_93 : decode cX0_remove 93 = .ok (.if_icmp .ge 34, 3) := by decide +kernel
theorem dX0_remove_96 : decode cX0_remove 96 = .ok (.aload_n 0, 1) := by decide +kernel
theorem dX0_remove_97 : decode cX0_remove 97 = .ok (.getfield 26, 3) := by decide +kernel
theorem dX0_remove_100 : decode cX0_remove 100 = .ok (.aload_n 0, 1) := by decide +kernel
theorem dX0_remove_101 : decode cX0_remove 101 = .ok (.getfield 39, 3) := by decide +kernel
theorem dX0_remove_104 : decode cX0_remove 104 = .ok (.baload, 1) := by decide +kernel
theorem dX0_remove_105 : decode cX0_remove 105 = .ok (.iconst 1, 1) := by decide +kernel
theorem dX0_remove_106 : decode cX0_remove 106 = .ok (.if_icmp .le 21, 3) := by decide +kernel
theorem dX0_remove_109 : decode cX0_remove 109 = .ok (.aload_n 0, 1) := by decide +kernel
theorem dX0_remove_110 : decode cX0_remove 110 = .ok (.iload_n 2, 1) := by decide +kernel
theorem dX0_remove_111 : decode cX0_remove 111 = .ok (.ifCond .le 9, 3) := by decide +kernel
theorem dX0_remove_114 : decode cX0_remove 114 = .ok (.iload_n 2, 1) := by decide +kernel
theorem dX0_remove_115 : decode cX0_remove 115 = .ok (.iconst 1, 1) := by decide +kernel
theorem dX0_remove_116 : decode cX0_remove 116 = .ok (.isub, 1) := by decide +kernel
theorem dX0_remove_117 : decode cX0_remove 117 = .ok (.goto 4, 3) := by decide +kernel
theorem dX0_remove_120 : decode cX0_remove 120 = .ok (.iconst 0, 1) := by decide +kernel
theorem dX0_remove_121 : decode cX0_remove 121 = .ok (.invokevirtual 81, 3) := by decide +kernel
theorem dX0_remove_124 : decode cX0_remove 124 = .ok (.goto 17, 3) := by decide +kernel
theorem dX0_remove_127 : decode cX0_remove 127 = .ok (.aload_n 0, 1) := by decide +kernel
theorem dX0_remove_128 : decode cX0_remove 128 = .ok (.getfield 13, 3) := by decide +kernel
theorem dX0_remove_131 : decode cX0_remove 131 = .ok (.iload_n 3, 1) := by decide +kernel
theorem dX0_remove_132 : decode cX0_remove 132 = .ok (.baload, 1) := by decide +kernel
theorem dX0_remove_133 : decode cX0_remove 133 = .ok (.ifCond .ne 8, 3) := by decide +kernel
theorem dX0_remove_136 : decode cX0_remove 136 = .ok (.aload_n 0, 1) := by decide +kernel
theorem dX0_remove_137 : decode cX0_remove 137 = .ok (.iload_n 2, 1) := by decide +kernel
theorem dX0_remove_138 : decode cX0_remove 138 = .ok (.invokevirtual 84, 3) := by decide +kernel
theorem dX0_remove_141 : decode cX0_remove 141 = .ok (.iconst 1, 1) := by decide +kernel
theorem dX0_remove_142 : decode cX0_remove 142 = .ok (.ireturn, 1) := by decide +kernel
theorem dX0_cellOf_0 : decode cX0_cellOf 0 = .ok (.aload_n 0, 1) := by decide +kernel
theorem dX0_cellOf_1 : decode cX0_cellOf 1 = .ok (.iload_n 1, 1) := by decide +kernel
theorem dX0_cellOf_2 : decode cX0_cellOf 2 = .ok (.iload_n 2, 1) := by decide +kernel
theorem dX0_cellOf_3 : decode cX0_cellOf 3 = .ok (.invokevirtual 57, 3) := by decide +kernel
theorem dX0_cellOf_6 : decode cX0_cellOf 6 = .ok (.istore_n 3, 1) := by decide +kernel
theorem dX0_cellOf_7 : decode cX0_cellOf 7 = .ok (.iload_n 3, 1) := by decide +kernel
theorem dX0_cellOf_8 : decode cX0_cellOf 8 = .ok (.ifCond .ge 5, 3) := by decide +kernel
theorem dX0_cellOf_11 : decode cX0_cellOf 11 = .ok (.iconst (-1), 1) := by decide +kernel
theorem dX0_cellOf_12 : decode cX0_cellOf 12 = .ok (.ireturn, 1) := by decide +kernel
theorem dX0_cellOf_13 : decode cX0_cellOf 13 = .ok (.aload_n 0, 1) := by decide +kernel
theorem dX0_cellOf_14 : decode cX0_cellOf 14 = .ok (.getfield 29, 3) := by decide +kernel
theorem dX0_cellOf_17 : decode cX0_cellOf 17 = .ok (.iload_n 1, 1) := by decide +kernel
theorem dX0_cellOf_18 : decode cX0_cellOf 18 = .ok (.bipush 17, 2) := by decide +kernel
theorem dX0_cellOf_20 : decode cX0_cellOf 20 = .ok (.imul, 1) := by decide +kernel
theorem dX0_cellOf_21 : decode cX0_cellOf 21 = .ok (.iload_n 3, 1) := by decide +kernel
theorem dX0_cellOf_22 : decode cX0_cellOf 22 = .ok (.iadd, 1) := by decide +kernel
theorem dX0_cellOf_23 : decode cX0_cellOf 23 = .ok (.baload, 1) := by decide +kernel
theorem dX0_cellOf_24 : decode cX0_cellOf 24 = .ok (.istore 4, 2) := by decide +kernel
theorem dX0_cellOf_26 : decode cX0_cellOf 26 = .ok (.aload_n 0, 1) := by decide +kernel
theorem dX0_cellOf_27 : decode cX0_cellOf 27 = .ok (.iload 4, 2) := by decide +kernel
theorem dX0_cellOf_29 : decode cX0_cellOf 29 = .ok (.iload_n 2, 1) := by decide +kernel
theorem dX0_cellOf_30 : decode cX0_cellOf 30 = .ok (.invokevirtual 61, 3) := by decide +kernel
theorem dX0_cellOf_33 : decode cX0_cellOf 33 = .ok (.istore 5, 2) := by decide +kernel
theorem dX0_cellOf_35 : decode cX0_cellOf 35 = .ok (.iload 5, 2) := by decide +kernel
theorem dX0_cellOf_37 : decode cX0_cellOf 37 = .ok (.aload_n 0, 1) := by decide +kernel
theorem dX0_cellOf_38 : decode cX0_cellOf 38 = .ok (.getfield 13, 3) := by decide +kernel
theorem dX0_cellOf_41 : decode cX0_cellOf 41 = .ok (.iload 4, 2) := by decide +kernel
theorem dX0_cellOf_43 : decode cX0_cellOf 43 = .ok (.baload, 1) := by decide +kernel
theorem dX0_cellOf_44 : decode cX0_cellOf 44 = .ok (.if_icmp .ge 23, 3) := by decide +kernel
theorem dX0_cellOf_47 : decode cX0_cellOf 47 = .ok (.aload_n 0, 1) := by decide +kernel
theorem dX0_cellOf_48 : decode cX0_cellOf 48 = .ok (.getfield 16, 3) := by decide +kernel
theorem dX0_cellOf_51 : decode cX0_cellOf 51 = .ok (.iload 4, 2) := by decide +kernel
theorem dX0_cellOf_53 : decode cX0_cellOf 53 = .ok (.iconst 5, 1) := by decide +kernel
theorem dX0_cellOf_54 : decode cX0_cellOf 54 = .ok (.imul, 1) := by decide +kernel
theorem dX0_cellOf_55 : decode cX0_cellOf 55 = .ok (.iload 5, 2) := by decide +kernel
theorem dX0_cellOf_57 : decode cX0_cellOf 57 = .ok (.iadd, 1) := by decide +kernel
theorem dX0_cellOf_58 : decode cX0_cellOf 58 = .ok (.baload, 1) := by decide +kernel
theorem dX0_cellOf_59 : decode cX0_cellOf 59 = .ok (.iload_n 2, 1) := by decide +kernel
theorem dX0_cellOf_60 : decode cX0_cellOf 60 = .ok (.if_icmp .ne 7, 3) := by decide +kernel
theorem dX0_cellOf_63 : decode cX0_cellOf 63 = .ok (.iconst 1, 1) := by decide +kernel
theorem dX0_cellOf_64 : decode cX0_cellOf 64 = .ok (.goto 4, 3) := by decide +kernel
theorem dX0_cellOf_67 : decode cX0_cellOf 67 = .ok (.iconst 0, 1) := by decide +kernel
theorem dX0_cellOf_68 : decode cX0_cellOf 68 = .ok (.istore 6, 2) := by decide +kernel
theorem dX0_cellOf_70 : decode cX0_cellOf 70 = .ok (.iload 6, 2) := by decide +kernel
theorem dX0_cellOf_72 : decode cX0_cellOf 72 = .ok (.ifCond .eq 13, 3) := by decide +kernel
theorem dX0_cellOf_75 : decode cX0_cellOf 75 = .ok (.iload 4, 2) := by decide +kernel
theorem dX0_cellOf_77 : decode cX0_cellOf 77 = .ok (.iconst 5, 1) := by decide +kernel
theorem dX0_cellOf_78 : decode cX0_cellOf 78 = .ok (.imul, 1) := by decide +kernel
theorem dX0_cellOf_79 : decode cX0_cellOf 79 = .ok (.iload 5, 2) := by decide +kernel
theorem dX0_cellOf_81 : decode cX0_cellOf 81 = .ok (.iadd, 1) := by decide +kernel
theorem dX0_cellOf_82 : decode cX0_cellOf 82 = .ok (.goto 4, 3) := by decide +kernel
theorem dX0_cellOf_85 : decode cX0_cellOf 85 = .ok (.iconst (-1), 1) := by decide +kernel
theorem dX0_cellOf_86 : decode cX0_cellOf 86 = .ok (.ireturn, 1) := by decide +kernel
theorem dX0_fill_0 : decode cX0_fill 0 = .ok (.aload_n 0, 1) := by decide +kernel
theorem dX0_fill_1 : decode cX0_fill 1 = .ok (.iload_n 1, 1) := by decide +kernel
theorem dX0_fill_2 : decode cX0_fill 2 = .ok (.invokevirtual 71, 3) := by decide +kernel
theorem dX0_fill_5 : decode cX0_fill 5 = .ok (.istore_n 2, 1) := by decide +kernel
theorem dX0_fill_6 : decode cX0_fill 6 = .ok (.aload_n 0, 1) := by decide +kernel
theorem dX0_fill_7 : decode cX0_fill 7 = .ok (.iload_n 1, 1) := by decide +kernel
theorem dX0_fill_8 : decode cX0_fill 8 = .ok (.iconst 1, 1) := by decide +kernel
theorem dX0_fill_9 : decode cX0_fill 9 = .ok (.iadd, 1) := by decide +kernel
theorem dX0_fill_10 : decode cX0_fill 10 = .ok (.invokevirtual 71, 3) := by decide +kernel
theorem dX0_fill_13 : decode cX0_fill 13 = .ok (.istore_n 3, 1) := by decide +kernel
theorem dX0_fill_14 : decode cX0_fill 14 = .ok (.aload_n 0, 1) := by decide +kernel
theorem dX0_fill_15 : decode cX0_fill 15 = .ok (.getfield 13, 3) := by decide +kernel
theorem dX0_fill_18 : decode cX0_fill 18 = .ok (.iload_n 2, 1) := by decide +kernel
theorem dX0_fill_19 : decode cX0_fill 19 = .ok (.baload, 1) := by decide +kernel
theorem dX0_fill_20 : decode cX0_fill 20 = .ok (.aload_n 0, 1) := by decide +kernel
theorem dX0_fill_21 : decode cX0_fill 21 = .ok (.getfield 13, 3) := by decide +kernel
theorem dX0_fill_24 : decode cX0_fill 24 = .ok (.iload_n 3, 1) := by decide +kernel
theorem dX0_fill_25 : decode cX0_fill 25 = .ok (.baload, 1) := by decide +kernel
theorem dX0_fill_26 : decode cX0_fill 26 = .ok (.iadd, 1) := by decide +kernel
theorem dX0_fill_27 : decode cX0_fill 27 = .ok (.istore 4, 2) := by decide +kernel
theorem dX0_fill_29 : decode cX0_fill 29 = .ok (.iload 4, 2) := by decide +kernel
theorem dX0_fill_31 : decode cX0_fill 31 = .ok (.iconst 4, 1) := by decide +kernel
theorem dX0_fill_32 : decode cX0_fill 32 = .ok (.if_icmp .gt 59, 3) := by decide +kernel
theorem dX0_fill_35 : decode cX0_fill 35 = .ok (.iconst 0, 1) := by decide +kernel
theorem dX0_fill_36 : decode cX0_fill 36 = .ok (.istore 5, 2) := by decide +kernel
theorem dX0_fill_38 : decode cX0_fill 38 = .ok (.iload 5, 2) := by decide +kernel
theorem dX0_fill_40 : decode cX0_fill 40 = .ok (.aload_n 0, 1) := by decide +kernel
theorem dX0_fill_41 : decode cX0_fill 41 = .ok (.getfield 13, 3) := by decide +kernel
theorem dX0_fill_44 : decode cX0_fill 44 = .ok (.iload_n 3, 1) := by decide +kernel
theorem dX0_fill_45 : decode cX0_fill 45 = .ok (.baload, 1) := by decide +kernel
theorem dX0_fill_46 : decode cX0_fill 46 = .ok (.if_icmp .ge 26, 3) := by decide +kernel
theorem dX0_fill_49 : decode cX0_fill 49 = .ok (.aload_n 0, 1) := by decide +kernel
theorem dX0_fill_50 : decode cX0_fill 50 = .ok (.iload_n 3, 1) := by decide +kernel
theorem dX0_fill_51 : decode cX0_fill 51 = .ok (.iload 5, 2) := by decide +kernel
theorem dX0_fill_53 : decode cX0_fill 53 = .ok (.iload_n 2, 1) := by decide +kernel
theorem dX0_fill_54 : decode cX0_fill 54 = .ok (.aload_n 0, 1) := by decide +kernel
theorem dX0_fill_55 : decode cX0_fill 55 = .ok (.getfield 13, 3) := by decide +kernel
theorem dX0_fill_58 : decode cX0_fill 58 = .ok (.iload_n 2, 1) := by decide +kernel
theorem dX0_fill_59 : decode cX0_fill 59 = .ok (.baload, 1) := by decide +kernel
theorem dX0_fill_60 : decode cX0_fill 60 = .ok (.iload 5, 2) := by decide +kernel
theorem dX0_fill_62 : decode cX0_fill 62 = .ok (.iadd, 1) := by decide +kernel
theorem dX0_fill_63 : decode cX0_fill 63 = .ok (.invokevirtual 53, 3) := by decide +kernel
theorem dX0_fill_66 : decode cX0_fill 66 = .ok (.iinc 5 1, 3) := by decide +kernel
theorem dX0_fill_69 : decode cX0_fill 69 = .ok (.goto (-31), 3) := by decide +kernel
theorem dX0_fill_72 : decode cX0_fill 72 = .ok (.aload_n 0, 1) := by decide +kernel
theorem dX0_fill_73 : decode cX0_fill 73 = .ok (.getfield 13, 3) := by decide +kernel
theorem dX0_fill_76 : decode cX0_fill 76 = .ok (.iload_n 2, 1) := by decide +kernel
theorem dX0_fill_77 : decode cX0_fill 77 = .ok (.iload 4, 2) := by decide +kernel
theorem dX0_fill_79 : decode cX0_fill 79 = .ok (.i2b, 1) := by decide +kernel
theorem dX0_fill_80 : decode cX0_fill 80 = .ok (.bastore, 1) := by decide +kernel
theorem dX0_fill_81 : decode cX0_fill 81 = .ok (.aload_n 0, 1) := by decide +kernel
theorem dX0_fill_82 : decode cX0_fill 82 = .ok (.iload_n 1, 1) := by decide +kernel
theorem dX0_fill_83 : decode cX0_fill 83 = .ok (.iconst 1, 1) := by decide +kernel
theorem dX0_fill_84 : decode cX0_fill 84 = .ok (.iadd, 1) := by decide +kernel
theorem dX0_fill_85 : decode cX0_fill 85 = .ok (.invokevirtual 84, 3) := by decide +kernel
theorem dX0_fill_88 : decode cX0_fill 88 = .ok (.goto 149, 3) := by decide +kernel
theorem dX0_fill_91 : decode cX0_fill 91 = .ok (.aload_n 0, 1) := by decide +kernel
theorem dX0_fill_92 : decode cX0_fill 92 = .ok (.getfield 13, 3) := by decide +kernel
theorem dX0_fill_95 : decode cX0_fill 95 = .ok (.iload_n 2, 1) := by decide +kernel
theorem dX0_fill_96 : decode cX0_fill 96 = .ok (.baload, 1) := by decide +kernel
theorem dX0_fill_97 : decode cX0_fill 97 = .ok (.iconst 2, 1) := by decide +kernel
theorem dX0_fill_98 : decode cX0_fill 98 = .ok (.if_icmp .ge 73, 3) := by decide +kernel
theorem dX0_fill_101 : decode cX0_fill 101 = .ok (.aload_n 0, 1) := by decide +kernel
theorem dX0_fill_102 : decode cX0_fill 102 = .ok (.iload_n 3, 1) := by decide +kernel
theorem dX0_fill_103 : decode cX0_fill 103 = .ok (.iconst 0, 1) := by decide +kernel
theorem dX0_fill_104 : decode cX0_fill 104 = .ok (.iload_n 2, 1) := by decide +kernel
theorem dX0_fill_105 : decode cX0_fill 105 = .ok (.aload_n 0, 1) := by decide +kernel
theorem dX0_fill_106 : decode cX0_fill 106 = .ok (.getfield 13, 3) := by decide +kernel
theorem dX0_fill_109 : decode cX0_fill 109 = .ok (.iload_n 2, 1) := by decide +kernel
theorem dX0_fill_110 : decode cX0_fill 110 = .ok (.baload, 1) := by decide +kernel
theorem dX0_fill_111 : decode cX0_fill 111 = .ok (.invokevirtual 53, 3) := by decide +kernel
theorem dX0_fill_114 : decode cX0_fill 114 = .ok (.aload_n 0, 1) := by decide +kernel
theorem dX0_fill_115 : decode cX0_fill 115 = .ok (.getfield 13, 3) := by decide +kernel
theorem dX0_fill_118 : decode cX0_fill 118 = .ok (.iload_n 2, 1) := by decide +kernel
theorem dX0_fill_119 : decode cX0_fill 119 = .ok (.dup2, 1) := by decide +kernel
theorem dX0_fill_120 : decode cX0_fill 120 = .ok (.baload, 1) := by decide +kernel
theorem dX0_fill_121 : decode cX0_fill 121 = .ok (.iconst 1, 1) := by decide +kernel
theorem dX0_fill_122 : decode cX0_fill 122 = .ok (.iadd, 1) := by decide +kernel
theorem dX0_fill_123 : decode cX0_fill 123 = .ok (.i2b, 1) := by decide +kernel
theorem dX0_fill_124 : decode cX0_fill 124 = .ok (.bastore, 1) := by decide +kernel
theorem dX0_fill_125 : decode cX0_fill 125 = .ok (.aload_n 0, 1) := by decide +kernel
theorem dX0_fill_126 : decode cX0_fill 126 = .ok (.getfield 13, 3) := by decide +kernel
theorem dX0_fill_129 : decode cX0_fill 129 = .ok (.iload_n 3, 1) := by decide +kernel
theorem dX0_fill_130 : decode cX0_fill 130 = .ok (.dup2, 1) := by decide +kernel
theorem dX0_fill_131 : decode cX0_fill 131 = .ok (.baload, 1) := by decide +kernel
theorem dX0_fill_132 : decode cX0_fill 132 = .ok (.iconst 1, 1) := by decide +kernel
theorem dX0_fill_133 : decode cX0_fill 133 = .ok (.isub, 1) := by decide +kernel
theorem dX0_fill_134 : decode cX0_fill 134 = .ok (.i2b, 1) := by decide +kernel
theorem dX0_fill_135 : decode cX0_fill 135 = .ok (.bastore, 1) := by decide +kernel
theorem dX0_fill_136 : decode cX0_fill 136 = .ok (.iconst 0, 1) := by decide +kernel
theorem dX0_fill_137 : decode cX0_fill 137 = .ok (.istore 5, 2) := by decide +kernel
theorem dX0_fill_139 : decode cX0_fill 139 = .ok (.iload 5, 2) := by decide +kernel
theorem dX0_fill_141 : decode cX0_fill 141 = .ok (.aload_n 0, 1) := by decide +kernel
theorem dX0_fill_142 : decode cX0_fill 142 = .ok (.getfield 13, 3) := by decide +kernel
theorem dX0_fill_145 : decode cX0_fill 145 = .ok (.iload_n 3, 1) := by decide +kernel
theorem dX0_fill_146 : decode cX0_fill 146 = .ok (.baload, 1) := by decide +kernel
theorem dX0_fill_147 : decode cX0_fill 147 = .ok (.if_icmp .ge 21, 3) := by decide +kernel
theorem dX0_fill_150 : decode cX0_fill 150 = .ok (.aload_n 0, 1) := by decide +kernel
theorem dX0_fill_151 : decode cX0_fill 151 = .ok (.iload_n 3, 1) := by decide +kernel
theorem dX0_fill_152 : decode cX0_fill 152 = .ok (.iload 5, 2) := by decide +kernel
theorem dX0_fill_154 : decode cX0_fill 154 = .ok (.iconst 1, 1) := by decide +kernel
theorem dX0_fill_155 : decode cX0_fill 155 = .ok (.iadd, 1) := by decide +kernel
theorem dX0_fill_156 : decode cX0_fill 156 = .ok (.iload_n 3, 1) := by decide +kernel
theorem dX0_fill_157 : decode cX0_fill 157 = .ok (.iload 5, 2) := by decide +kernel
theorem dX0_fill_159 : decode cX0_fill 159 = .ok (.invokevirtual 53, 3) := by decide +kernel
theorem dX0_fill_162 : decode cX0_fill 162 = .ok (.iinc 5 1, 3) := by decide +kernel
theorem dX0_fill_165 : decode cX0_fill 165 = .ok (.goto (-26), 3) := by decide +kernel
theorem dX0_fill_168 : decode cX0_fill 168 = .ok (.goto 69, 3) := by decide +kernel
theorem dX0_fill_171 : decode cX0_fill 171 = .ok (.aload_n 0, 1) := by decide +kernel
theorem dX0_fill_172 : decode cX0_fill 172 = .ok (.getfield 13, 3) := by decide +kernel
theorem dX0_fill_175 : decode cX0_fill 175 = .ok (.iload_n 3, 1) := by decide +kernel
theorem dX0_fill_176 : decode cX0_fill 176 = .ok (.baload, 1) := by decide +kernel
theorem dX0_fill_177 : decode cX0_fill 177 = .ok (.istore 5, 2) := by decide +kernel
theorem dX0_fill_179 : decode cX0_fill 179 = .ok (.iload 5, 2) := by decide +kernel
theorem dX0_fill_181 : decode cX0_fill 181 = .ok (.ifCond .le 21, 3) := by decide +kernel
theorem dX0_fill_184 : decode cX0_fill 184 = .ok (.aload_n 0, 1) := by decide +kernel
theorem dX0_fill_185 : decode cX0_fill 185 = .ok (.iload_n 3, 1) := by decide +kernel
theorem dX0_fill_186 : decode cX0_fill 186 = .ok (.iload 5, 2) := by decide +kernel
theorem dX0_fill_188 : decode cX0_fill 188 = .ok (.iconst 1, 1) := by decide +kernel
theorem dX0_fill_189 : decode cX0_fill 189 = .ok (.isub, 1) := by decide +kernel
theorem dX0_fill_190 : decode cX0_fill 190 = .ok (.iload_n 3, 1) := by decide +kernel
theorem dX0_fill_191 : decode cX0_fill 191 = .ok (.iload 5, 2) := by decide +kernel
theorem dX0_fill_193 : decode cX0_fill 193 = .ok (.invokevirtual 53, 3) := by decide +kernel
theorem dX0_fill_196 : decode cX0_fill 196 = .ok (.iinc 5 (-1), 3) := by decide +kernel
theorem dX0_fill_199 : decode cX0_fill 199 = .ok (.goto (-20), 3) := by decide +kernel
theorem dX0_fill_202 : decode cX0_fill 202 = .ok (.aload_n 0, 1) := by decide +kernel
theorem dX0_fill_203 : decode cX0_fill 203 = .ok (.getfield 13, 3) := by decide +kernel
theorem dX0_fill_206 : decode cX0_fill 206 = .ok (.iload_n 2, 1) := by decide +kernel
theorem dX0_fill_207 : decode cX0_fill 207 = .ok (.dup2, 1) := by decide +kernel
theorem dX0_fill_208 : decode cX0_fill 208 = .ok (.baload, 1) := by decide +kernel
theorem dX0_fill_209 : decode cX0_fill 209 = .ok (.iconst 1, 1) := by decide +kernel
theorem dX0_fill_210 : decode cX0_fill 210 = .ok (.isub, 1) := by decide +kernel
theorem dX0_fill_211 : decode cX0_fill 211 = .ok (.i2b, 1) := by decide +kernel
theorem dX0_fill_212 : decode cX0_fill 212 = .ok (.bastore, 1) := by decide +kernel
theorem dX0_fill_213 : decode cX0_fill 213 = .ok (.aload_n 0, 1) := by decide +kernel
theorem dX0_fill_214 : decode cX0_fill 214 = .ok (.iload_n 2, 1) := by decide +kernel
theorem dX0_fill_215 : decode cX0_fill 215 = .ok (.aload_n 0, 1) := by decide +kernel
theorem dX0_fill_216 : decode cX0_fill 216 = .ok (.getfield 13, 3) := by decide +kernel
theorem dX0_fill_219 : decode cX0_fill 219 = .ok (.iload_n 2, 1) := by decide +kernel
theorem dX0_fill_220 : decode cX0_fill 220 = .ok (.baload, 1) := by decide +kernel
theorem dX0_fill_221 : decode cX0_fill 221 = .ok (.iload_n 3, 1) := by decide +kernel
theorem dX0_fill_222 : decode cX0_fill 222 = .ok (.iconst 0, 1) := by decide +kernel
theorem dX0_fill_223 : decode cX0_fill 223 = .ok (.invokevirtual 53, 3) := by decide +kernel
theorem dX0_fill_226 : decode cX0_fill 226 = .ok (.aload_n 0, 1) := by decide +kernel
theorem dX0_fill_227 : decode cX0_fill 227 = .ok (.getfield 13, 3) := by decide +kernel
theorem dX0_fill_230 : decode cX0_fill 230 = .ok (.iload_n 3, 1) := by decide +kernel
theorem dX0_fill_231 : decode cX0_fill 231 = .ok (.dup2, 1) := by decide +kernel
theorem dX0_fill_232 : decode cX0_fill 232 = .ok (.baload, 1) := by decide +kernel
theorem dX0_fill_233 : decode cX0_fill 233 = .ok (.iconst 1, 1) := by decide +kernel
theorem dX0_fill_234 : decode cX0_fill 234 = .ok (.iadd, 1) := by decide +kernel
theorem dX0_fill_235 : decode cX0_fill 235 = .ok (.i2b, 1) := by decide +kernel
theorem dX0_fill_236 : decode cX0_fill 236 = .ok (.bastore, 1) := by decide +kernel
theorem dX0_fill_237 : decode cX0_fill 237 = .ok (.return_, 1) := by decide +kernel
theorem dX0_dropLeaf_0 : decode cX0_dropLeaf 0 = .ok (.aload_n 0, 1) := by decide +kernel
theorem dX0_dropLeaf_1 : decode cX0_dropLeaf 1 = .ok (.getfield 7, 3) := by decide +kernel
theorem dX0_dropLeaf_4 : decode cX0_dropLeaf 4 = .ok (.aload_n 0, 1) := by decide +kernel
theorem dX0_dropLeaf_5 : decode cX0_dropLeaf 5 = .ok (.getfield 29, 3) := by decide +kernel
theorem dX0_dropLeaf_8 : decode cX0_dropLeaf 8 = .ok (.aload_n 0, 1) := by decide +kernel
theorem dX0_dropLeaf_9 : decode cX0_dropLeaf 9 = .ok (.getfield 39, 3) := by decide +kernel
theorem dX0_dropLeaf_12 : decode cX0_dropLeaf 12 = .ok (.bipush 17, 2) := by decide +kernel
theorem dX0_dropLeaf_14 : decode cX0_dropLeaf 14 = .ok (.imul, 1) := by decide +kernel
theorem dX0_dropLeaf_15 : decode cX0_dropLeaf 15 = .ok (.iload_n 1, 1) := by decide +kernel
theorem dX0_dropLeaf_16 : decode cX0_dropLeaf 16 = .ok (.iadd, 1) := by decide +kernel
theorem dX0_dropLeaf_17 : decode cX0_dropLeaf 17 = .ok (.baload, 1) := by decide +kernel
theorem dX0_dropLeaf_18 : decode cX0_dropLeaf 18 = .ok (.dup2, 1) := by decide +kernel
theorem dX0_dropLeaf_19 : decode cX0_dropLeaf 19 = .ok (.baload, 1) := by decide +kernel
theorem dX0_dropLeaf_20 : decode cX0_dropLeaf 20 = .ok (.iconst 1, 1) := by decide +kernel
theorem dX0_dropLeaf_21 : decode cX0_dropLeaf 21 = .ok (.isub, 1) := by decide +kernel
theorem dX0_dropLeaf_22 : decode cX0_dropLeaf 22 = .ok (.i2b, 1) := by decide +kernel
theorem dX0_dropLeaf_23 : decode cX0_dropLeaf 23 = .ok (.bastore, 1) := by decide +kernel
theorem dX0_dropLeaf_24 : decode cX0_dropLeaf 24 = .ok (.aload_n 0, 1) := by decide +kernel
theorem dX0_dropLeaf_25 : decode cX0_dropLeaf 25 = .ok (.getfield 26, 3) := by decide +kernel
theorem dX0_dropLeaf_28 : decode cX0_dropLeaf 28 = .ok (.aload_n 0, 1) := by decide +kernel
theorem dX0_dropLeaf_29 : decode cX0_dropLeaf 29 = .ok (.getfield 39, 3) := by decide +kernel
theorem dX0_dropLeaf_32 : decode cX0_dropLeaf 32 = .ok (.dup2, 1) := by decide +kernel
theorem dX0_dropLeaf_33 : decode cX0_dropLeaf 33 = .ok (.baload, 1) := by decide +kernel
theorem dX0_dropLeaf_34 : decode cX0_dropLeaf 34 = .ok (.iconst 1, 1) := by decide +kernel
theorem dX0_dropLeaf_35 : decode cX0_dropLeaf 35 = .ok (.isub, 1) := by decide +kernel
theorem dX0_dropLeaf_36 : decode cX0_dropLeaf 36 = .ok (.i2b, 1) := by decide +kernel
theorem dX0_dropLeaf_37 : decode cX0_dropLeaf 37 = .ok (.bastore, 1) := by decide +kernel
theorem dX0_dropLeaf_38 : decode cX0_dropLeaf 38 = .ok (.iload_n 1, 1) := by decide +kernel
theorem dX0_dropLeaf_39 : decode cX0_dropLeaf 39 = .ok (.istore_n 2, 1) := by decide +kernel
theorem dX0_dropLeaf_40 : decode cX0_dropLeaf 40 = .ok (.iload_n 2, 1) := by decide +kernel
theorem dX0_dropLeaf_41 : decode cX0_dropLeaf 41 = .ok (.aload_n 0, 1) := by decide +kernel
theorem dX0_dropLeaf_42 : decode cX0_dropLeaf 42 = .ok (.getfield 26, 3) := by decide +kernel
theorem dX0_dropLeaf_45 : decode cX0_dropLeaf 45 = .ok (.aload_n 0, 1) := by decide +kernel
theorem dX0_dropLeaf_46 : decode cX0_dropLeaf 46 = .ok (.getfield 39, 3) := by decide +kernel
theorem dX0_dropLeaf_49 : decode cX0_dropLeaf 49 = .ok (.baload, 1) := by decide +kernel
theorem dX0_dropLeaf_50 : decode cX0_dropLeaf 50 = .ok (.if_icmp .ge 39, 3) := by decide +kernel
theorem dX0_dropLeaf_53 : decode cX0_dropLeaf 53 = .ok (.aload_n 0, 1) := by decide +kernel
theorem dX0_dropLeaf_54 : decode cX0_dropLeaf 54 = .ok (.getfield 29, 3) := by decide +kernel
theorem dX0_dropLeaf_57 : decode cX0_dropLeaf 57 = .ok (.aload_n 0, 1) := by decide +kernel
theorem dX0_dropLeaf_58 : decode cX0_dropLeaf 58 = .ok (.getfield 39, 3) := by decide +kernel
theorem dX0_dropLeaf_61 : decode cX0_dropLeaf 61 = .ok (.bipush 17, 2) := by decide +kernel
theorem dX0_dropLeaf_63 : decode cX0_dropLeaf 63 = .ok (.imul, 1) := by decide +kernel
theorem dX0_dropLeaf_64 : decode cX0_dropLeaf 64 = .ok (.iload_n 2, 1) := by decide +kernel
theorem dX0_dropLeaf_65 : decode cX0_dropLeaf 65 = .ok (.iadd, 1) := by decide +kernel
theorem dX0_dropLeaf_66 : decode cX0_dropLeaf 66 = .ok (.aload_n 0, 1) := by decide +kernel
theorem dX0_dropLeaf_67 : decode cX0_dropLeaf 67 = .ok (.getfield 29, 3) := by decide +kernel
theorem dX0_dropLeaf_70 : decode cX0_dropLeaf 70 = .ok (.aload_n 0, 1) := by decide +kernel
theorem dX0_dropLeaf_71 : decode cX0_dropLeaf 71 = .ok (.getfield 39, 3) := by decide +kernel
theorem dX0_dropLeaf_74 : decode cX0_dropLeaf 74 = .ok (.bipush 17, 2) := by decide +kernel
theorem dX0_dropLeaf_76 : decode cX0_dropLeaf 76 = .ok (.imul, 1) := by decide +kernel
theorem dX0_dropLeaf_77 : decode cX0_dropLeaf 77 = .ok (.iload_n 2, 1) := by decide +kernel
theorem dX0_dropLeaf_78 : decode cX0_dropLeaf 78 = .ok (.iadd, 1) := by decide +kernel
theorem dX0_dropLeaf_79 : decode cX0_dropLeaf 79 = .ok (.iconst 1, 1) := by decide +kernel
theorem dX0_dropLeaf_80 : decode cX0_dropLeaf 80 = .ok (.iadd, 1) := by decide +kernel
theorem dX0_dropLeaf_81 : decode cX0_dropLeaf 81 = .ok (.baload, 1) := by decide +kernel
theorem dX0_dropLeaf_82 : decode cX0_dropLeaf 82 = .ok (.bastore, 1) := by decide +kernel
theorem dX0_dropLeaf_83 : decode cX0_dropLeaf 83 = .ok (.iinc 2 1, 3) := by decide +kernel
theorem dX0_dropLeaf_86 : decode cX0_dropLeaf 86 = .ok (.goto (-46), 3) := by decide +kernel
theorem dX0_dropLeaf_89 : decode cX0_dropLeaf 89 = .ok (.return_, 1) := by decide +kernel
theorem dX0_save_0 : decode cX0_save 0 = .ok (.aload_n 0, 1) := by decide +kernel
theorem dX0_save_1 : decode cX0_save 1 = .ok (.dup, 1) := by decide +kernel
theorem dX0_save_2 : decode cX0_save 2 = .ok (.getfield 87, 3) := by decide +kernel
theorem dX0_save_5 : decode cX0_save 5 = .ok (.iconst 1, 1) := by decide +kernel
theorem dX0_save_6 : decode cX0_save 6 = .ok (.iadd, 1) := by decide +kernel
theorem dX0_save_7 : decode cX0_save 7 = .ok (.putfield 87, 3) := by decide +kernel
theorem dX0_save_10 : decode cX0_save 10 = .ok (.aload_n 0, 1) := by decide +kernel
theorem dX0_save_11 : decode cX0_save 11 = .ok (.getfield 87, 3) := by decide +kernel
theorem dX0_save_14 : decode cX0_save 14 = .ok (.aload_n 0, 1) := by decide +kernel
theorem dX0_save_15 : decode cX0_save 15 = .ok (.getfield 35, 3) := by decide +kernel
theorem dX0_save_18 : decode cX0_save 18 = .ok (.isub, 1) := by decide +kernel
theorem dX0_save_19 : decode cX0_save 19 = .ok (.iconst 4, 1) := by decide +kernel
theorem dX0_save_20 : decode cX0_save 20 = .ok (.if_icmp .lt 28, 3) := by decide +kernel
theorem dX0_save_23 : decode cX0_save 23 = .ok (.aload_n 0, 1) := by decide +kernel
theorem dX0_save_24 : decode cX0_save 24 = .ok (.aload_n 0, 1) := by decide +kernel
theorem dX0_save_25 : decode cX0_save 25 = .ok (.getfield 32, 3) := by decide +kernel
theorem dX0_save_28 : decode cX0_save 28 = .ok (.aload_n 0, 1) := by decide +kernel
theorem dX0_save_29 : decode cX0_save 29 = .ok (.getfield 35, 3) := by decide +kernel
theorem dX0_save_32 : decode cX0_save 32 = .ok (.iconst 3, 1) := by decide +kernel
theorem dX0_save_33 : decode cX0_save 33 = .ok (.iand, 1) := by decide +kernel
theorem dX0_save_34 : decode cX0_save 34 = .ok (.baload, 1) := by decide +kernel
theorem dX0_save_35 : decode cX0_save 35 = .ok (.invokevirtual 46, 3) := by decide +kernel
theorem dX0_save_38 : decode cX0_save 38 = .ok (.aload_n 0, 1) := by decide +kernel
theorem dX0_save_39 : decode cX0_save 39 = .ok (.dup, 1) := by decide +kernel
theorem dX0_save_40 : decode cX0_save 40 = .ok (.getfield 35, 3) := by decide +kernel
theorem dX0_save_43 : decode cX0_save 43 = .ok (.iconst 1, 1) := by decide +kernel
theorem dX0_save_44 : decode cX0_save 44 = .ok (.iadd, 1) := by decide +kernel
theorem dX0_save_45 : decode cX0_save 45 = .ok (.putfield 35, 3) := by decide +kernel
theorem dX0_save_48 : decode cX0_save 48 = .ok (.aload_n 0, 1) := by decide +kernel
theorem dX0_save_49 : decode cX0_save 49 = .ok (.getfield 32, 3) := by decide +kernel
theorem dX0_save_52 : decode cX0_save 52 = .ok (.aload_n 0, 1) := by decide +kernel
theorem dX0_save_53 : decode cX0_save 53 = .ok (.getfield 87, 3) := by decide +kernel
theorem dX0_save_56 : decode cX0_save 56 = .ok (.iconst 3, 1) := by decide +kernel
theorem dX0_save_57 : decode cX0_save 57 = .ok (.iand, 1) := by decide +kernel
theorem dX0_save_58 : decode cX0_save 58 = .ok (.aload_n 0, 1) := by decide +kernel
theorem dX0_save_59 : decode cX0_save 59 = .ok (.getfield 39, 3) := by decide +kernel
theorem dX0_save_62 : decode cX0_save 62 = .ok (.i2b, 1) := by decide +kernel
theorem dX0_save_63 : decode cX0_save 63 = .ok (.bastore, 1) := by decide +kernel
theorem dX0_save_64 : decode cX0_save 64 = .ok (.aload_n 0, 1) := by decide +kernel
theorem dX0_save_65 : decode cX0_save 65 = .ok (.getfield 23, 3) := by decide +kernel
theorem dX0_save_68 : decode cX0_save 68 = .ok (.aload_n 0, 1) := by decide +kernel
theorem dX0_save_69 : decode cX0_save 69 = .ok (.getfield 39, 3) := by decide +kernel
theorem dX0_save_72 : decode cX0_save 72 = .ok (.dup2, 1) := by decide +kernel
theorem dX0_save_73 : decode cX0_save 73 = .ok (.baload, 1) := by decide +kernel
theorem dX0_save_74 : decode cX0_save 74 = .ok (.iconst 1, 1) := by decide +kernel
theorem dX0_save_75 : decode cX0_save 75 = .ok (.iadd, 1) := by decide +kernel
theorem dX0_save_76 : decode cX0_save 76 = .ok (.i2b, 1) := by decide +kernel
theorem dX0_save_77 : decode cX0_save 77 = .ok (.bastore, 1) := by decide +kernel
theorem dX0_save_78 : decode cX0_save 78 = .ok (.aload_n 0, 1) := by decide +kernel
theorem dX0_save_79 : decode cX0_save 79 = .ok (.getfield 87, 3) := by decide +kernel
theorem dX0_save_82 : decode cX0_save 82 = .ok (.ireturn, 1) := by decide +kernel
theorem dX0_goBack_0 : decode cX0_goBack 0 = .ok (.aload_n 0, 1) := by decide +kernel
theorem dX0_goBack_1 : decode cX0_goBack 1 = .ok (.iload_n 1, 1) := by decide +kernel
theorem dX0_goBack_2 : decode cX0_goBack 2 = .ok (.invokevirtual 90, 3) := by decide +kernel
theorem dX0_goBack_5 : decode cX0_goBack 5 = .ok (.ifCond .ne 5, 3) := by decide +kernel
theorem dX0_goBack_8 : decode cX0_goBack 8 = .ok (.iconst 0, 1) := by decide +kernel
theorem dX0_goBack_9 : decode cX0_goBack 9 = .ok (.ireturn, 1) := by decide +kernel
theorem dX0_goBack_10 : decode cX0_goBack 10 = .ok (.aload_n 0, 1) := by decide +kernel
theorem dX0_goBack_11 : decode cX0_goBack 11 = .ok (.aload_n 0, 1) := by decide +kernel
theorem dX0_goBack_12 : decode cX0_goBack 12 = .ok (.getfield 39, 3) := by decide +kernel
theorem dX0_goBack_15 : decode cX0_goBack 15 = .ok (.invokevirtual 46, 3) := by decide +kernel
theorem dX0_goBack_18 : decode cX0_goBack 18 = .ok (.aload_n 0, 1) := by decide +kernel
theorem dX0_goBack_19 : decode cX0_goBack 19 = .ok (.aload_n 0, 1) := by decide +kernel
theorem dX0_goBack_20 : decode cX0_goBack 20 = .ok (.getfield 32, 3) := by decide +kernel
theorem dX0_goBack_23 : decode cX0_goBack 23 = .ok (.iload_n 1, 1) := by decide +kernel
theorem dX0_goBack_24 : decode cX0_goBack 24 = .ok (.iconst 3, 1) := by decide +kernel
theorem dX0_goBack_25 : decode cX0_goBack 25 = .ok (.iand, 1) := by decide +kernel
theorem dX0_goBack_26 : decode cX0_goBack 26 = .ok (.baload, 1) := by decide +kernel
theorem dX0_goBack_27 : decode cX0_goBack 27 = .ok (.putfield 39, 3) := by decide +kernel
theorem dX0_goBack_30 : decode cX0_goBack 30 = .ok (.aload_n 0, 1) := by decide +kernel
theorem dX0_goBack_31 : decode cX0_goBack 31 = .ok (.getfield 23, 3) := by decide +kernel
theorem dX0_goBack_34 : decode cX0_goBack 34 = .ok (.aload_n 0, 1) := by decide +kernel
theorem dX0_goBack_35 : decode cX0_goBack 35 = .ok (.getfield 39, 3) := by decide +kernel
theorem dX0_goBack_38 : decode cX0_goBack 38 = .ok (.dup2, 1) := by decide +kernel
theorem dX0_goBack_39 : decode cX0_goBack 39 = .ok (.baload, 1) := by decide +kernel
theorem dX0_goBack_40 : decode cX0_goBack 40 = .ok (.iconst 1, 1) := by decide +kernel
theorem dX0_goBack_41 : decode cX0_goBack 41 = .ok (.iadd, 1) := by decide +kernel
theorem dX0_goBack_42 : decode cX0_goBack 42 = .ok (.i2b, 1) := by decide +kernel
theorem dX0_goBack_43 : decode cX0_goBack 43 = .ok (.bastore, 1) := by decide +kernel
theorem dX0_goBack_44 : decode cX0_goBack 44 = .ok (.aload_n 0, 1) := by decide +kernel
theorem dX0_goBack_45 : decode cX0_goBack 45 = .ok (.getfield 87, 3) := by decide +kernel
theorem dX0_goBack_48 : decode cX0_goBack 48 = .ok (.istore_n 2, 1) := by decide +kernel
theorem dX0_goBack_49 : decode cX0_goBack 49 = .ok (.iload_n 2, 1) := by decide +kernel
theorem dX0_goBack_50 : decode cX0_goBack 50 = .ok (.iload_n 1, 1) := by decide +kernel
theorem dX0_goBack_51 : decode cX0_goBack 51 = .ok (.if_icmp .le 21, 3) := by decide +kernel
theorem dX0_goBack_54 : decode cX0_goBack 54 = .ok (.aload_n 0, 1) := by decide +kernel
theorem dX0_goBack_55 : decode cX0_goBack 55 = .ok (.aload_n 0, 1) := by decide +kernel
theorem dX0_goBack_56 : decode cX0_goBack 56 = .ok (.getfield 32, 3) := by decide +kernel
theorem dX0_goBack_59 : decode cX0_goBack 59 = .ok (.iload_n 2, 1) := by decide +kernel
theorem dX0_goBack_60 : decode cX0_goBack 60 = .ok (.iconst 3, 1) := by decide +kernel
theorem dX0_goBack_61 : decode cX0_goBack 61 = .ok (.iand, 1) := by decide +kernel
theorem dX0_goBack_62 : decode cX0_goBack 62 = .ok (.baload, 1) := by decide +kernel
theorem dX0_goBack_63 : decode cX0_goBack 63 = .ok (.invokevirtual 46, 3) := by decide +kernel
theorem dX0_goBack_66 : decode cX0_goBack 66 = .ok (.iinc 2 (-1), 3) := by decide +kernel
theorem dX0_goBack_69 : decode cX0_goBack 69 = .ok (.goto (-20), 3) := by decide +kernel
theorem dX0_goBack_72 : decode cX0_goBack 72 = .ok (.aload_n 0, 1) := by decide +kernel
theorem dX0_goBack_73 : decode cX0_goBack 73 = .ok (.iload_n 1, 1) := by decide +kernel
theorem dX0_goBack_74 : decode cX0_goBack 74 = .ok (.putfield 87, 3) := by decide +kernel
theorem dX0_goBack_77 : decode cX0_goBack 77 = .ok (.iconst 1, 1) := by decide +kernel
theorem dX0_goBack_78 : decode cX0_goBack 78 = .ok (.ireturn, 1) := by decide +kernel
theorem dX0_isKept_0 : decode cX0_isKept 0 = .ok (.iload_n 1, 1) := by decide +kernel
theorem dX0_isKept_1 : decode cX0_isKept 1 = .ok (.aload_n 0, 1) := by decide +kernel
theorem dX0_isKept_2 : decode cX0_isKept 2 = .ok (.getfield 35, 3) := by decide +kernel
theorem dX0_isKept_5 : decode cX0_isKept 5 = .ok (.if_icmp .lt 15, 3) := by decide +kernel
theorem dX0_isKept_8 : decode cX0_isKept 8 = .ok (.iload_n 1, 1) := by decide +kernel
theorem dX0_isKept_9 : decode cX0_isKept 9 = .ok (.aload_n 0, 1) := by decide +kernel
theorem dX0_isKept_10 : decode cX0_isKept 10 = .ok (.getfield 87, 3) := by decide +kernel
theorem dX0_isKept_13 : decode cX0_isKept 13 = .ok (.if_icmp .gt 7, 3) := by decide +kernel
theorem dX0_isKept_16 : decode cX0_isKept 16 = .ok (.iconst 1, 1) := by decide +kernel
theorem dX0_isKept_17 : decode cX0_isKept 17 = .ok (.goto 4, 3) := by decide +kernel
theorem dX0_isKept_20 : decode cX0_isKept 20 = .ok (.iconst 0, 1) := by decide +kernel
theorem dX0_isKept_21 : decode cX0_isKept 21 = .ok (.ireturn, 1) := by decide +kernel
theorem dX0_kept_0 : decode cX0_kept 0 = .ok (.aload_n 0, 1) := by decide +kernel
theorem dX0_kept_1 : decode cX0_kept 1 = .ok (.getfield 87, 3) := by decide +kernel
theorem dX0_kept_4 : decode cX0_kept 4 = .ok (.aload_n 0, 1) := by decide +kernel
theorem dX0_kept_5 : decode cX0_kept 5 = .ok (.getfield 35, 3) := by decide +kernel
theorem dX0_kept_8 : decode cX0_kept 8 = .ok (.if_icmp .ge 7, 3) := by decide +kernel
theorem dX0_kept_11 : decode cX0_kept 11 = .ok (.iconst 0, 1) := by decide +kernel
theorem dX0_kept_12 : decode cX0_kept 12 = .ok (.goto 16, 3) := by decide +kernel
theorem dX0_kept_15 : decode cX0_kept 15 = .ok (.aload_n 0, 1) := by decide +kernel
theorem dX0_kept_16 : decode cX0_kept 16 = .ok (.getfield 35, 3) := by decide +kernel
theorem dX0_kept_19 : decode cX0_kept 19 = .ok (.sipush 1000, 3) := by decide +kernel
theorem dX0_kept_22 : decode cX0_kept 22 = .ok (.aload_n 0, 1) := by decide +kernel
theorem dX0_kept_23 : decode cX0_kept 23 = .ok (.getfield 87, 3) := by decide +kernel
theorem dX0_kept_26 : decode cX0_kept 26 = .ok (.imul, 1) := by decide +kernel
theorem dX0_kept_27 : decode cX0_kept 27 = .ok (.iadd, 1) := by decide +kernel
theorem dX0_kept_28 : decode cX0_kept 28 = .ok (.ireturn, 1) := by decide +kernel
theorem dX0_has_0 : decode cX0_has 0 = .ok (.aload_n 0, 1) := by decide +kernel
theorem dX0_has_1 : decode cX0_has 1 = .ok (.iload_n 1, 1) := by decide +kernel
theorem dX0_has_2 : decode cX0_has 2 = .ok (.invokevirtual 94, 3) := by decide +kernel
theorem dX0_has_5 : decode cX0_has 5 = .ok (.istore_n 3, 1) := by decide +kernel
end
section
set_option maxRecDepth 100000
theorem dX0_has_6 : decode cX0_has 6 = .ok (.iload_n 3, 1) := by decide +kernel
theorem dX0_has_7 : decode cX0_has 7 = .ok (.ifCond .lt 16, 3) := by decide +kernel
theorem dX0_has_10 : decode cX0_has 10 = .ok (.aload_n 0, 1) := by decide +kernel
theorem dX0_has_11 : decode cX0_has 11 = .ok (.iload_n 3, 1) := by decide +kernel
theorem dX0_has_12 : decode cX0_has 12 = .ok (.iload_n 2, 1) := by decide +kernel
theorem dX0_has_13 : decode cX0_has 13 = .ok (.invokevirtual 78, 3) := by decide +kernel
theorem dX0_has_16 : decode cX0_has 16 = .ok (.ifCond .lt 7, 3) := by decide +kernel
theorem dX0_has_19 : decode cX0_has 19 = .ok (.iconst 1, 1) := by decide +kernel
theorem dX0_has_20 : decode cX0_has 20 = .ok (.goto 4, 3) := by decide +kernel
theorem dX0_has_23 : decode cX0_has 23 = .ok (.iconst 0, 1) := by decide +kernel
theorem dX0_has_24 : decode cX0_has 24 = .ok (.ireturn, 1) := by decide +kernel
theorem dX0_rootOf_0 : decode cX0_rootOf 0 = .ok (.iload_n 1, 1) := by decide +kernel
theorem dX0_rootOf_1 : decode cX0_rootOf 1 = .ok (.ifCond .ne 8, 3) := by decide +kernel
theorem dX0_rootOf_4 : decode cX0_rootOf 4 = .ok (.aload_n 0, 1) := by decide +kernel
theorem dX0_rootOf_5 : decode cX0_rootOf 5 = .ok (.getfield 39, 3) := by decide +kernel
theorem dX0_rootOf_8 : decode cX0_rootOf 8 = .ok (.ireturn, 1) := by decide +kernel
theorem dX0_rootOf_9 : decode cX0_rootOf 9 = .ok (.aload_n 0, 1) := by decide +kernel
theorem dX0_rootOf_10 : decode cX0_rootOf 10 = .ok (.iload_n 1, 1) := by decide +kernel
theorem dX0_rootOf_11 : decode cX0_rootOf 11 = .ok (.invokevirtual 90, 3) := by decide +kernel
theorem dX0_rootOf_14 : decode cX0_rootOf 14 = .ok (.ifCond .eq 14, 3) := by decide +kernel
theorem dX0_rootOf_17 : decode cX0_rootOf 17 = .ok (.aload_n 0, 1) := by decide +kernel
theorem dX0_rootOf_18 : decode cX0_rootOf 18 = .ok (.getfield 32, 3) := by decide +kernel
theorem dX0_rootOf_21 : decode cX0_rootOf 21 = .ok (.iload_n 1, 1) := by decide +kernel
theorem dX0_rootOf_22 : decode cX0_rootOf 22 = .ok (.iconst 3, 1) := by decide +kernel
theorem dX0_rootOf_23 : decode cX0_rootOf 23 = .ok (.iand, 1) := by decide +kernel
theorem dX0_rootOf_24 : decode cX0_rootOf 24 = .ok (.baload, 1) := by decide +kernel
theorem dX0_rootOf_25 : decode cX0_rootOf 25 = .ok (.goto 4, 3) := by decide +kernel
theorem dX0_rootOf_28 : decode cX0_rootOf 28 = .ok (.iconst (-1), 1) := by decide +kernel
theorem dX0_rootOf_29 : decode cX0_rootOf 29 = .ok (.ireturn, 1) := by decide +kernel
theorem dX0_get_0 : decode cX0_get 0 = .ok (.aload_n 0, 1) := by decide +kernel
theorem dX0_get_1 : decode cX0_get 1 = .ok (.iload_n 1, 1) := by decide +kernel
theorem dX0_get_2 : decode cX0_get 2 = .ok (.invokevirtual 94, 3) := by decide +kernel
theorem dX0_get_5 : decode cX0_get 5 = .ok (.istore_n 3, 1) := by decide +kernel
theorem dX0_get_6 : decode cX0_get 6 = .ok (.iload_n 3, 1) := by decide +kernel
theorem dX0_get_7 : decode cX0_get 7 = .ok (.ifCond .ge 7, 3) := by decide +kernel
theorem dX0_get_10 : decode cX0_get 10 = .ok (.iconst (-1), 1) := by decide +kernel
theorem dX0_get_11 : decode cX0_get 11 = .ok (.goto 9, 3) := by decide +kernel
theorem dX0_get_14 : decode cX0_get 14 = .ok (.aload_n 0, 1) := by decide +kernel
theorem dX0_get_15 : decode cX0_get 15 = .ok (.iload_n 3, 1) := by decide +kernel
theorem dX0_get_16 : decode cX0_get 16 = .ok (.iload_n 2, 1) := by decide +kernel
theorem dX0_get_17 : decode cX0_get 17 = .ok (.invokevirtual 78, 3) := by decide +kernel
theorem dX0_get_20 : decode cX0_get 20 = .ok (.istore 4, 2) := by decide +kernel
theorem dX0_get_22 : decode cX0_get 22 = .ok (.iload 4, 2) := by decide +kernel
theorem dX0_get_24 : decode cX0_get 24 = .ok (.ifCond .ge 7, 3) := by decide +kernel
theorem dX0_get_27 : decode cX0_get 27 = .ok (.iconst 0, 1) := by decide +kernel
theorem dX0_get_28 : decode cX0_get 28 = .ok (.goto 10, 3) := by decide +kernel
theorem dX0_get_31 : decode cX0_get 31 = .ok (.aload_n 0, 1) := by decide +kernel
theorem dX0_get_32 : decode cX0_get 32 = .ok (.getfield 19, 3) := by decide +kernel
theorem dX0_get_35 : decode cX0_get 35 = .ok (.iload 4, 2) := by decide +kernel
theorem dX0_get_37 : decode cX0_get 37 = .ok (.iaload, 1) := by decide +kernel
theorem dX0_get_38 : decode cX0_get 38 = .ok (.ireturn, 1) := by decide +kernel
theorem dX0_count_0 : decode cX0_count 0 = .ok (.aload_n 0, 1) := by decide +kernel
theorem dX0_count_1 : decode cX0_count 1 = .ok (.iload_n 1, 1) := by decide +kernel
theorem dX0_count_2 : decode cX0_count 2 = .ok (.invokevirtual 94, 3) := by decide +kernel
theorem dX0_count_5 : decode cX0_count 5 = .ok (.istore_n 2, 1) := by decide +kernel
theorem dX0_count_6 : decode cX0_count 6 = .ok (.iload_n 2, 1) := by decide +kernel
theorem dX0_count_7 : decode cX0_count 7 = .ok (.ifCond .ge 5, 3) := by decide +kernel
theorem dX0_count_10 : decode cX0_count 10 = .ok (.iconst (-1), 1) := by decide +kernel
theorem dX0_count_11 : decode cX0_count 11 = .ok (.ireturn, 1) := by decide +kernel
theorem dX0_count_12 : decode cX0_count 12 = .ok (.iconst 0, 1) := by decide +kernel
theorem dX0_count_13 : decode cX0_count 13 = .ok (.istore_n 3, 1) := by decide +kernel
theorem dX0_count_14 : decode cX0_count 14 = .ok (.iconst 0, 1) := by decide +kernel
theorem dX0_count_15 : decode cX0_count 15 = .ok (.istore 4, 2) := by decide +kernel
theorem dX0_count_17 : decode cX0_count 17 = .ok (.iload 4, 2) := by decide +kernel
theorem dX0_count_19 : decode cX0_count 19 = .ok (.aload_n 0, 1) := by decide +kernel
theorem dX0_count_20 : decode cX0_count 20 = .ok (.getfield 26, 3) := by decide +kernel
theorem dX0_count_23 : decode cX0_count 23 = .ok (.iload_n 2, 1) := by decide +kernel
theorem dX0_count_24 : decode cX0_count 24 = .ok (.baload, 1) := by decide +kernel
theorem dX0_count_25 : decode cX0_count 25 = .ok (.if_icmp .ge 29, 3) := by decide +kernel
theorem dX0_count_28 : decode cX0_count 28 = .ok (.iload_n 3, 1) := by decide +kernel
theorem dX0_count_29 : decode cX0_count 29 = .ok (.aload_n 0, 1) := by decide +kernel
theorem dX0_count_30 : decode cX0_count 30 = .ok (.getfield 13, 3) := by decide +kernel
theorem dX0_count_33 : decode cX0_count 33 = .ok (.aload_n 0, 1) := by decide +kernel
theorem dX0_count_34 : decode cX0_count 34 = .ok (.getfield 29, 3) := by decide +kernel
theorem dX0_count_37 : decode cX0_count 37 = .ok (.iload_n 2, 1) := by decide +kernel
theorem dX0_count_38 : decode cX0_count 38 = .ok (.bipush 17, 2) := by decide +kernel
theorem dX0_count_40 : decode cX0_count 40 = .ok (.imul, 1) := by decide +kernel
theorem dX0_count_41 : decode cX0_count 41 = .ok (.iload 4, 2) := by decide +kernel
theorem dX0_count_43 : decode cX0_count 43 = .ok (.iadd, 1) := by decide +kernel
theorem dX0_count_44 : decode cX0_count 44 = .ok (.baload, 1) := by decide +kernel
theorem dX0_count_45 : decode cX0_count 45 = .ok (.baload, 1) := by decide +kernel
theorem dX0_count_46 : decode cX0_count 46 = .ok (.iadd, 1) := by decide +kernel
theorem dX0_count_47 : decode cX0_count 47 = .ok (.istore_n 3, 1) := by decide +kernel
theorem dX0_count_48 : decode cX0_count 48 = .ok (.iinc 4 1, 3) := by decide +kernel
theorem dX0_count_51 : decode cX0_count 51 = .ok (.goto (-34), 3) := by decide +kernel
theorem dX0_count_54 : decode cX0_count 54 = .ok (.iload_n 3, 1) := by decide +kernel
theorem dX0_count_55 : decode cX0_count 55 = .ok (.ireturn, 1) := by decide +kernel
theorem dX0_from_0 : decode cX0_from 0 = .ok (.aload_n 0, 1) := by decide +kernel
theorem dX0_from_1 : decode cX0_from 1 = .ok (.iload_n 1, 1) := by decide +kernel
theorem dX0_from_2 : decode cX0_from 2 = .ok (.iload_n 2, 1) := by decide +kernel
theorem dX0_from_3 : decode cX0_from 3 = .ok (.invokevirtual 97, 3) := by decide +kernel
theorem dX0_from_6 : decode cX0_from 6 = .ok (.istore_n 3, 1) := by decide +kernel
theorem dX0_from_7 : decode cX0_from 7 = .ok (.iload_n 3, 1) := by decide +kernel
theorem dX0_from_8 : decode cX0_from 8 = .ok (.ifCond .ge 7, 3) := by decide +kernel
theorem dX0_from_11 : decode cX0_from 11 = .ok (.iconst (-1), 1) := by decide +kernel
theorem dX0_from_12 : decode cX0_from 12 = .ok (.goto 9, 3) := by decide +kernel
theorem dX0_from_15 : decode cX0_from 15 = .ok (.aload_n 0, 1) := by decide +kernel
theorem dX0_from_16 : decode cX0_from 16 = .ok (.iload_n 1, 1) := by decide +kernel
theorem dX0_from_17 : decode cX0_from 17 = .ok (.iload_n 3, 1) := by decide +kernel
theorem dX0_from_18 : decode cX0_from 18 = .ok (.invokevirtual 100, 3) := by decide +kernel
theorem dX0_from_21 : decode cX0_from 21 = .ok (.ireturn, 1) := by decide +kernel
theorem dX0_rank_0 : decode cX0_rank 0 = .ok (.aload_n 0, 1) := by decide +kernel
theorem dX0_rank_1 : decode cX0_rank 1 = .ok (.iload_n 1, 1) := by decide +kernel
theorem dX0_rank_2 : decode cX0_rank 2 = .ok (.invokevirtual 94, 3) := by decide +kernel
theorem dX0_rank_5 : decode cX0_rank 5 = .ok (.istore_n 3, 1) := by decide +kernel
theorem dX0_rank_6 : decode cX0_rank 6 = .ok (.iload_n 3, 1) := by decide +kernel
theorem dX0_rank_7 : decode cX0_rank 7 = .ok (.ifCond .ge 5, 3) := by decide +kernel
theorem dX0_rank_10 : decode cX0_rank 10 = .ok (.iconst (-1), 1) := by decide +kernel
theorem dX0_rank_11 : decode cX0_rank 11 = .ok (.ireturn, 1) := by decide +kernel
theorem dX0_rank_12 : decode cX0_rank 12 = .ok (.iconst 0, 1) := by decide +kernel
theorem dX0_rank_13 : decode cX0_rank 13 = .ok (.istore 4, 2) := by decide +kernel
theorem dX0_rank_15 : decode cX0_rank 15 = .ok (.aload_n 0, 1) := by decide +kernel
theorem dX0_rank_16 : decode cX0_rank 16 = .ok (.iload_n 3, 1) := by decide +kernel
theorem dX0_rank_17 : decode cX0_rank 17 = .ok (.iload_n 2, 1) := by decide +kernel
theorem dX0_rank_18 : decode cX0_rank 18 = .ok (.invokevirtual 57, 3) := by decide +kernel
theorem dX0_rank_21 : decode cX0_rank 21 = .ok (.istore 5, 2) := by decide +kernel
theorem dX0_rank_23 : decode cX0_rank 23 = .ok (.iconst 0, 1) := by decide +kernel
theorem dX0_rank_24 : decode cX0_rank 24 = .ok (.istore 6, 2) := by decide +kernel
theorem dX0_rank_26 : decode cX0_rank 26 = .ok (.iload 6, 2) := by decide +kernel
theorem dX0_rank_28 : decode cX0_rank 28 = .ok (.iload 5, 2) := by decide +kernel
theorem dX0_rank_30 : decode cX0_rank 30 = .ok (.if_icmp .ge 31, 3) := by decide +kernel
theorem dX0_rank_33 : decode cX0_rank 33 = .ok (.iload 4, 2) := by decide +kernel
theorem dX0_rank_35 : decode cX0_rank 35 = .ok (.aload_n 0, 1) := by decide +kernel
theorem dX0_rank_36 : decode cX0_rank 36 = .ok (.getfield 13, 3) := by decide +kernel
theorem dX0_rank_39 : decode cX0_rank 39 = .ok (.aload_n 0, 1) := by decide +kernel
theorem dX0_rank_40 : decode cX0_rank 40 = .ok (.getfield 29, 3) := by decide +kernel
theorem dX0_rank_43 : decode cX0_rank 43 = .ok (.iload_n 3, 1) := by decide +kernel
theorem dX0_rank_44 : decode cX0_rank 44 = .ok (.bipush 17, 2) := by decide +kernel
theorem dX0_rank_46 : decode cX0_rank 46 = .ok (.imul, 1) := by decide +kernel
theorem dX0_rank_47 : decode cX0_rank 47 = .ok (.iload 6, 2) := by decide +kernel
theorem dX0_rank_49 : decode cX0_rank 49 = .ok (.iadd, 1) := by decide +kernel
theorem dX0_rank_50 : decode cX0_rank 50 = .ok (.baload, 1) := by decide +kernel
theorem dX0_rank_51 : decode cX0_rank 51 = .ok (.baload, 1) := by decide +kernel
theorem dX0_rank_52 : decode cX0_rank 52 = .ok (.iadd, 1) := by decide +kernel
theorem dX0_rank_53 : decode cX0_rank 53 = .ok (.istore 4, 2) := by decide +kernel
theorem dX0_rank_55 : decode cX0_rank 55 = .ok (.iinc 6 1, 3) := by decide +kernel
theorem dX0_rank_58 : decode cX0_rank 58 = .ok (.goto (-32), 3) := by decide +kernel
theorem dX0_rank_61 : decode cX0_rank 61 = .ok (.iload 5, 2) := by decide +kernel
theorem dX0_rank_63 : decode cX0_rank 63 = .ok (.ifCond .ge 5, 3) := by decide +kernel
theorem dX0_rank_66 : decode cX0_rank 66 = .ok (.iconst 0, 1) := by decide +kernel
theorem dX0_rank_67 : decode cX0_rank 67 = .ok (.ireturn, 1) := by decide +kernel
theorem dX0_rank_68 : decode cX0_rank 68 = .ok (.aload_n 0, 1) := by decide +kernel
theorem dX0_rank_69 : decode cX0_rank 69 = .ok (.getfield 29, 3) := by decide +kernel
theorem dX0_rank_72 : decode cX0_rank 72 = .ok (.iload_n 3, 1) := by decide +kernel
theorem dX0_rank_73 : decode cX0_rank 73 = .ok (.bipush 17, 2) := by decide +kernel
theorem dX0_rank_75 : decode cX0_rank 75 = .ok (.imul, 1) := by decide +kernel
theorem dX0_rank_76 : decode cX0_rank 76 = .ok (.iload 5, 2) := by decide +kernel
theorem dX0_rank_78 : decode cX0_rank 78 = .ok (.iadd, 1) := by decide +kernel
theorem dX0_rank_79 : decode cX0_rank 79 = .ok (.baload, 1) := by decide +kernel
theorem dX0_rank_80 : decode cX0_rank 80 = .ok (.istore 6, 2) := by decide +kernel
theorem dX0_rank_82 : decode cX0_rank 82 = .ok (.iload 4, 2) := by decide +kernel
theorem dX0_rank_84 : decode cX0_rank 84 = .ok (.aload_n 0, 1) := by decide +kernel
theorem dX0_rank_85 : decode cX0_rank 85 = .ok (.iload 6, 2) := by decide +kernel
theorem dX0_rank_87 : decode cX0_rank 87 = .ok (.iload_n 2, 1) := by decide +kernel
theorem dX0_rank_88 : decode cX0_rank 88 = .ok (.invokevirtual 61, 3) := by decide +kernel
theorem dX0_rank_91 : decode cX0_rank 91 = .ok (.iadd, 1) := by decide +kernel
theorem dX0_rank_92 : decode cX0_rank 92 = .ok (.ireturn, 1) := by decide +kernel
theorem dX0_keyAt_0 : decode cX0_keyAt 0 = .ok (.aload_n 0, 1) := by decide +kernel
theorem dX0_keyAt_1 : decode cX0_keyAt 1 = .ok (.iload_n 1, 1) := by decide +kernel
theorem dX0_keyAt_2 : decode cX0_keyAt 2 = .ok (.invokevirtual 94, 3) := by decide +kernel
theorem dX0_keyAt_5 : decode cX0_keyAt 5 = .ok (.istore_n 3, 1) := by decide +kernel
theorem dX0_keyAt_6 : decode cX0_keyAt 6 = .ok (.iload_n 3, 1) := by decide +kernel
theorem dX0_keyAt_7 : decode cX0_keyAt 7 = .ok (.ifCond .lt 7, 3) := by decide +kernel
theorem dX0_keyAt_10 : decode cX0_keyAt 10 = .ok (.iload_n 2, 1) := by decide +kernel
theorem dX0_keyAt_11 : decode cX0_keyAt 11 = .ok (.ifCond .ge 5, 3) := by decide +kernel
theorem dX0_keyAt_14 : decode cX0_keyAt 14 = .ok (.iconst (-1), 1) := by decide +kernel
theorem dX0_keyAt_15 : decode cX0_keyAt 15 = .ok (.ireturn, 1) := by decide +kernel
theorem dX0_keyAt_16 : decode cX0_keyAt 16 = .ok (.iload_n 2, 1) := by decide +kernel
theorem dX0_keyAt_17 : decode cX0_keyAt 17 = .ok (.istore 4, 2) := by decide +kernel
theorem dX0_keyAt_19 : decode cX0_keyAt 19 = .ok (.iconst 0, 1) := by decide +kernel
theorem dX0_keyAt_20 : decode cX0_keyAt 20 = .ok (.istore 5, 2) := by decide +kernel
theorem dX0_keyAt_22 : decode cX0_keyAt 22 = .ok (.iload 5, 2) := by decide +kernel
theorem dX0_keyAt_24 : decode cX0_keyAt 24 = .ok (.aload_n 0, 1) := by decide +kernel
theorem dX0_keyAt_25 : decode cX0_keyAt 25 = .ok (.getfield 26, 3) := by decide +kernel
theorem dX0_keyAt_28 : decode cX0_keyAt 28 = .ok (.iload_n 3, 1) := by decide +kernel
theorem dX0_keyAt_29 : decode cX0_keyAt 29 = .ok (.baload, 1) := by decide +kernel
theorem dX0_keyAt_30 : decode cX0_keyAt 30 = .ok (.if_icmp .ge 60, 3) := by decide +kernel
theorem dX0_keyAt_33 : decode cX0_keyAt 33 = .ok (.aload_n 0, 1) := by decide +kernel
theorem dX0_keyAt_34 : decode cX0_keyAt 34 = .ok (.getfield 29, 3) := by decide +kernel
theorem dX0_keyAt_37 : decode cX0_keyAt 37 = .ok (.iload_n 3, 1) := by decide +kernel
theorem dX0_keyAt_38 : decode cX0_keyAt 38 = .ok (.bipush 17, 2) := by decide +kernel
theorem dX0_keyAt_40 : decode cX0_keyAt 40 = .ok (.imul, 1) := by decide +kernel
theorem dX0_keyAt_41 : decode cX0_keyAt 41 = .ok (.iload 5, 2) := by decide +kernel
theorem dX0_keyAt_43 : decode cX0_keyAt 43 = .ok (.iadd, 1) := by decide +kernel
theorem dX0_keyAt_44 : decode cX0_keyAt 44 = .ok (.baload, 1) := by decide +kernel
theorem dX0_keyAt_45 : decode cX0_keyAt 45 = .ok (.istore 6, 2) := by decide +kernel
theorem dX0_keyAt_47 : decode cX0_keyAt 47 = .ok (.iload 4, 2) := by decide +kernel
theorem dX0_keyAt_49 : decode cX0_keyAt 49 = .ok (.aload_n 0, 1) := by decide +kernel
theorem dX0_keyAt_50 : decode cX0_keyAt 50 = .ok (.getfield 13, 3) := by decide +kernel
theorem dX0_keyAt_53 : decode cX0_keyAt 53 = .ok (.iload 6, 2) := by decide +kernel
theorem dX0_keyAt_55 : decode cX0_keyAt 55 = .ok (.baload, 1) := by decide +kernel
theorem dX0_keyAt_56 : decode cX0_keyAt 56 = .ok (.if_icmp .ge 16, 3) := by decide +kernel
theorem dX0_keyAt_59 : decode cX0_keyAt 59 = .ok (.aload_n 0, 1) := by decide +kernel
theorem dX0_keyAt_60 : decode cX0_keyAt 60 = .ok (.getfield 16, 3) := by decide +kernel
theorem dX0_keyAt_63 : decode cX0_keyAt 63 = .ok (.iload 6, 2) := by decide +kernel
theorem dX0_keyAt_65 : decode cX0_keyAt 65 = .ok (.iconst 5, 1) := by decide +kernel
theorem dX0_keyAt_66 : decode cX0_keyAt 66 = .ok (.imul, 1) := by decide +kernel
theorem dX0_keyAt_67 : decode cX0_keyAt 67 = .ok (.iload 4, 2) := by decide +kernel
theorem dX0_keyAt_69 : decode cX0_keyAt 69 = .ok (.iadd, 1) := by decide +kernel
theorem dX0_keyAt_70 : decode cX0_keyAt 70 = .ok (.baload, 1) := by decide +kernel
theorem dX0_keyAt_71 : decode cX0_keyAt 71 = .ok (.ireturn, 1) := by decide +kernel
theorem dX0_keyAt_72 : decode cX0_keyAt 72 = .ok (.iload 4, 2) := by decide +kernel
theorem dX0_keyAt_74 : decode cX0_keyAt 74 = .ok (.aload_n 0, 1) := by decide +kernel
theorem dX0_keyAt_75 : decode cX0_keyAt 75 = .ok (.getfield 13, 3) := by decide +kernel
theorem dX0_keyAt_78 : decode cX0_keyAt 78 = .ok (.iload 6, 2) := by decide +kernel
theorem dX0_keyAt_80 : decode cX0_keyAt 80 = .ok (.baload, 1) := by decide +kernel
theorem dX0_keyAt_81 : decode cX0_keyAt 81 = .ok (.isub, 1) := by decide +kernel
theorem dX0_keyAt_82 : decode cX0_keyAt 82 = .ok (.istore 4, 2) := by decide +kernel
theorem dX0_keyAt_84 : decode cX0_keyAt 84 = .ok (.iinc 5 1, 3) := by decide +kernel
theorem dX0_keyAt_87 : decode cX0_keyAt 87 = .ok (.goto (-65), 3) := by decide +kernel
theorem dX0_keyAt_90 : decode cX0_keyAt 90 = .ok (.iconst (-1), 1) := by decide +kernel
theorem dX0_keyAt_91 : decode cX0_keyAt 91 = .ok (.ireturn, 1) := by decide +kernel
theorem dX0_upTo_0 : decode cX0_upTo 0 = .ok (.aload_n 0, 1) := by decide +kernel
theorem dX0_upTo_1 : decode cX0_upTo 1 = .ok (.iload_n 1, 1) := by decide +kernel
theorem dX0_upTo_2 : decode cX0_upTo 2 = .ok (.invokevirtual 94, 3) := by decide +kernel
theorem dX0_upTo_5 : decode cX0_upTo 5 = .ok (.istore_n 3, 1) := by decide +kernel
theorem dX0_upTo_6 : decode cX0_upTo 6 = .ok (.iload_n 3, 1) := by decide +kernel
theorem dX0_upTo_7 : decode cX0_upTo 7 = .ok (.ifCond .ge 5, 3) := by decide +kernel
theorem dX0_upTo_10 : decode cX0_upTo 10 = .ok (.iconst (-1), 1) := by decide +kernel
theorem dX0_upTo_11 : decode cX0_upTo 11 = .ok (.ireturn, 1) := by decide +kernel
theorem dX0_upTo_12 : decode cX0_upTo 12 = .ok (.aload_n 0, 1) := by decide +kernel
theorem dX0_upTo_13 : decode cX0_upTo 13 = .ok (.iload_n 1, 1) := by decide +kernel
theorem dX0_upTo_14 : decode cX0_upTo 14 = .ok (.iload_n 2, 1) := by decide +kernel
theorem dX0_upTo_15 : decode cX0_upTo 15 = .ok (.invokevirtual 97, 3) := by decide +kernel
theorem dX0_upTo_18 : decode cX0_upTo 18 = .ok (.istore 4, 2) := by decide +kernel
theorem dX0_upTo_20 : decode cX0_upTo 20 = .ok (.aload_n 0, 1) := by decide +kernel
theorem dX0_upTo_21 : decode cX0_upTo 21 = .ok (.iload_n 3, 1) := by decide +kernel
theorem dX0_upTo_22 : decode cX0_upTo 22 = .ok (.iload_n 2, 1) := by decide +kernel
theorem dX0_upTo_23 : decode cX0_upTo 23 = .ok (.invokevirtual 78, 3) := by decide +kernel
theorem dX0_upTo_26 : decode cX0_upTo 26 = .ok (.ifCond .lt 7, 3) := by decide +kernel
theorem dX0_upTo_29 : decode cX0_upTo 29 = .ok (.iload_n 2, 1) := by decide +kernel
theorem dX0_upTo_30 : decode cX0_upTo 30 = .ok (.goto 12, 3) := by decide +kernel
theorem dX0_upTo_33 : decode cX0_upTo 33 = .ok (.aload_n 0, 1) := by decide +kernel
theorem dX0_upTo_34 : decode cX0_upTo 34 = .ok (.iload_n 1, 1) := by decide +kernel
theorem dX0_upTo_35 : decode cX0_upTo 35 = .ok (.iload 4, 2) := by decide +kernel
theorem dX0_upTo_37 : decode cX0_upTo 37 = .ok (.iconst 1, 1) := by decide +kernel
theorem dX0_upTo_38 : decode cX0_upTo 38 = .ok (.isub, 1) := by decide +kernel
theorem dX0_upTo_39 : decode cX0_upTo 39 = .ok (.invokevirtual 100, 3) := by decide +kernel
theorem dX0_upTo_42 : decode cX0_upTo 42 = .ok (.ireturn, 1) := by decide +kernel
theorem dX0_sum_0 : decode cX0_sum 0 = .ok (.aload_n 0, 1) := by decide +kernel
theorem dX0_sum_1 : decode cX0_sum 1 = .ok (.iload_n 1, 1) := by decide +kernel
theorem dX0_sum_2 : decode cX0_sum 2 = .ok (.invokevirtual 94, 3) := by decide +kernel
theorem dX0_sum_5 : decode cX0_sum 5 = .ok (.istore 4, 2) := by decide +kernel
theorem dX0_sum_7 : decode cX0_sum 7 = .ok (.iconst 0, 1) := by decide +kernel
theorem dX0_sum_8 : decode cX0_sum 8 = .ok (.istore 5, 2) := by decide +kernel
theorem dX0_sum_10 : decode cX0_sum 10 = .ok (.iconst 0, 1) := by decide +kernel
theorem dX0_sum_11 : decode cX0_sum 11 = .ok (.istore 6, 2) := by decide +kernel
theorem dX0_sum_13 : decode cX0_sum 13 = .ok (.iload 4, 2) := by decide +kernel
theorem dX0_sum_15 : decode cX0_sum 15 = .ok (.ifCond .lt 115, 3) := by decide +kernel
theorem dX0_sum_18 : decode cX0_sum 18 = .ok (.iload 6, 2) := by decide +kernel
theorem dX0_sum_20 : decode cX0_sum 20 = .ok (.aload_n 0, 1) := by decide +kernel
theorem dX0_sum_21 : decode cX0_sum 21 = .ok (.getfield 26, 3) := by decide +kernel
theorem dX0_sum_24 : decode cX0_sum 24 = .ok (.iload 4, 2) := by decide +kernel
theorem dX0_sum_26 : decode cX0_sum 26 = .ok (.baload, 1) := by decide +kernel
theorem dX0_sum_27 : decode cX0_sum 27 = .ok (.if_icmp .ge 103, 3) := by decide +kernel
theorem dX0_sum_30 : decode cX0_sum 30 = .ok (.aload_n 0, 1) := by decide +kernel
theorem dX0_sum_31 : decode cX0_sum 31 = .ok (.getfield 29, 3) := by decide +kernel
theorem dX0_sum_34 : decode cX0_sum 34 = .ok (.iload 4, 2) := by decide +kernel
theorem dX0_sum_36 : decode cX0_sum 36 = .ok (.bipush 17, 2) := by decide +kernel
theorem dX0_sum_38 : decode cX0_sum 38 = .ok (.imul, 1) := by decide +kernel
theorem dX0_sum_39 : decode cX0_sum 39 = .ok (.iload 6, 2) := by decide +kernel
theorem dX0_sum_41 : decode cX0_sum 41 = .ok (.iadd, 1) := by decide +kernel
theorem dX0_sum_42 : decode cX0_sum 42 = .ok (.baload, 1) := by decide +kernel
theorem dX0_sum_43 : decode cX0_sum 43 = .ok (.istore 7, 2) := by decide +kernel
theorem dX0_sum_45 : decode cX0_sum 45 = .ok (.iload 7, 2) := by decide +kernel
theorem dX0_sum_47 : decode cX0_sum 47 = .ok (.iconst 5, 1) := by decide +kernel
theorem dX0_sum_48 : decode cX0_sum 48 = .ok (.imul, 1) := by decide +kernel
theorem dX0_sum_49 : decode cX0_sum 49 = .ok (.istore 8, 2) := by decide +kernel
theorem dX0_sum_51 : decode cX0_sum 51 = .ok (.iload 8, 2) := by decide +kernel
theorem dX0_sum_53 : decode cX0_sum 53 = .ok (.iload 7, 2) := by decide +kernel
theorem dX0_sum_55 : decode cX0_sum 55 = .ok (.iconst 5, 1) := by decide +kernel
theorem dX0_sum_56 : decode cX0_sum 56 = .ok (.imul, 1) := by decide +kernel
theorem dX0_sum_57 : decode cX0_sum 57 = .ok (.aload_n 0, 1) := by decide +kernel
theorem dX0_sum_58 : decode cX0_sum 58 = .ok (.getfield 13, 3) := by decide +kernel
theorem dX0_sum_61 : decode cX0_sum 61 = .ok (.iload 7, 2) := by decide +kernel
theorem dX0_sum_63 : decode cX0_sum 63 = .ok (.baload, 1) := by decide +kernel
theorem dX0_sum_64 : decode cX0_sum 64 = .ok (.iadd, 1) := by decide +kernel
theorem dX0_sum_65 : decode cX0_sum 65 = .ok (.if_icmp .ge 59, 3) := by decide +kernel
theorem dX0_sum_68 : decode cX0_sum 68 = .ok (.aload_n 0, 1) := by decide +kernel
theorem dX0_sum_69 : decode cX0_sum 69 = .ok (.getfield 16, 3) := by decide +kernel
theorem dX0_sum_72 : decode cX0_sum 72 = .ok (.iload 8, 2) := by decide +kernel
theorem dX0_sum_74 : decode cX0_sum 74 = .ok (.baload, 1) := by decide +kernel
theorem dX0_sum_75 : decode cX0_sum 75 = .ok (.iload_n 2, 1) := by decide +kernel
theorem dX0_sum_76 : decode cX0_sum 76 = .ok (.if_icmp .lt 18, 3) := by decide +kernel
theorem dX0_sum_79 : decode cX0_sum 79 = .ok (.aload_n 0, 1) := by decide +kernel
theorem dX0_sum_80 : decode cX0_sum 80 = .ok (.getfield 16, 3) := by decide +kernel
theorem dX0_sum_83 : decode cX0_sum 83 = .ok (.iload 8, 2) := by decide +kernel
theorem dX0_sum_85 : decode cX0_sum 85 = .ok (.baload, 1) := by decide +kernel
theorem dX0_sum_86 : decode cX0_sum 86 = .ok (.iload_n 3, 1) := by decide +kernel
theorem dX0_sum_87 : decode cX0_sum 87 = .ok (.if_icmp .gt 7, 3) := by decide +kernel
theorem dX0_sum_90 : decode cX0_sum 90 = .ok (.iconst 1, 1) := by decide +kernel
theorem dX0_sum_91 : decode cX0_sum 91 = .ok (.goto 4, 3) := by decide +kernel
theorem dX0_sum_94 : decode cX0_sum 94 = .ok (.iconst 0, 1) := by decide +kernel
theorem dX0_sum_95 : decode cX0_sum 95 = .ok (.istore 9, 2) := by decide +kernel
theorem dX0_sum_97 : decode cX0_sum 97 = .ok (.iload 5, 2) := by decide +kernel
theorem dX0_sum_99 : decode cX0_sum 99 = .ok (.iload 9, 2) := by decide +kernel
theorem dX0_sum_101 : decode cX0_sum 101 = .ok (.ifCond .eq 13, 3) := by decide +kernel
theorem dX0_sum_104 : decode cX0_sum 104 = .ok (.aload_n 0, 1) := by decide +kernel
theorem dX0_sum_105 : decode cX0_sum 105 = .ok (.getfield 19, 3) := by decide +kernel
theorem dX0_sum_108 : decode cX0_sum 108 = .ok (.iload 8, 2) := by decide +kernel
theorem dX0_sum_110 : decode cX0_sum 110 = .ok (.iaload, 1) := by decide +kernel
theorem dX0_sum_111 : decode cX0_sum 111 = .ok (.goto 4, 3) := by decide +kernel
theorem dX0_sum_114 : decode cX0_sum 114 = .ok (.iconst 0, 1) := by decide +kernel
theorem dX0_sum_115 : decode cX0_sum 115 = .ok (.iadd, 1) := by decide +kernel
theorem dX0_sum_116 : decode cX0_sum 116 = .ok (.istore 5, 2) := by decide +kernel
theorem dX0_sum_118 : decode cX0_sum 118 = .ok (.iinc 8 1, 3) := by decide +kernel
theorem dX0_sum_121 : decode cX0_sum 121 = .ok (.goto (-70), 3) := by decide +kernel
theorem dX0_sum_124 : decode cX0_sum 124 = .ok (.iinc 6 1, 3) := by decide +kernel
theorem dX0_sum_127 : decode cX0_sum 127 = .ok (.goto (-114), 3) := by decide +kernel
theorem dX0_sum_130 : decode cX0_sum 130 = .ok (.iload 5, 2) := by decide +kernel
theorem dX0_sum_132 : decode cX0_sum 132 = .ok (.ireturn, 1) := by decide +kernel
theorem dX0_difference_0 : decode cX0_difference 0 = .ok (.aload_n 0, 1) := by decide +kernel
theorem dX0_difference_1 : decode cX0_difference 1 = .ok (.iload_n 1, 1) := by decide +kernel
theorem dX0_difference_2 : decode cX0_difference 2 = .ok (.invokevirtual 94, 3) := by decide +kernel
theorem dX0_difference_5 : decode cX0_difference 5 = .ok (.istore_n 3, 1) := by decide +kernel
theorem dX0_difference_6 : decode cX0_difference 6 = .ok (.aload_n 0, 1) := by decide +kernel
theorem dX0_difference_7 : decode cX0_difference 7 = .ok (.iload_n 2, 1) := by decide +kernel
theorem dX0_difference_8 : decode cX0_difference 8 = .ok (.invokevirtual 94, 3) := by decide +kernel
theorem dX0_difference_11 : decode cX0_difference 11 = .ok (.istore 4, 2) := by decide +kernel
theorem dX0_difference_13 : decode cX0_difference 13 = .ok (.iload_n 3, 1) := by decide +kernel
theorem dX0_difference_14 : decode cX0_difference 14 = .ok (.ifCond .lt 8, 3) := by decide +kernel
theorem dX0_difference_17 : decode cX0_difference 17 = .ok (.iload 4, 2) := by decide +kernel
theorem dX0_difference_19 : decode cX0_difference 19 = .ok (.ifCond .ge 5, 3) := by decide +kernel
theorem dX0_difference_22 : decode cX0_difference 22 = .ok (.iconst 0, 1) := by decide +kernel
theorem dX0_difference_23 : decode cX0_difference 23 = .ok (.ireturn, 1) := by decide +kernel
theorem dX0_difference_24 : decode cX0_difference 24 = .ok (.aload_n 0, 1) := by decide +kernel
theorem dX0_difference_25 : decode cX0_difference 25 = .ok (.iload_n 3, 1) := by decide +kernel
theorem dX0_difference_26 : decode cX0_difference 26 = .ok (.iload 4, 2) := by decide +kernel
theorem dX0_difference_28 : decode cX0_difference 28 = .ok (.invokevirtual 103, 3) := by decide +kernel
theorem dX0_difference_31 : decode cX0_difference 31 = .ok (.aload_n 0, 1) := by decide +kernel
theorem dX0_difference_32 : decode cX0_difference 32 = .ok (.iload 4, 2) := by decide +kernel
theorem dX0_difference_34 : decode cX0_difference 34 = .ok (.iload_n 3, 1) := by decide +kernel
theorem dX0_difference_35 : decode cX0_difference 35 = .ok (.invokevirtual 103, 3) := by decide +kernel
theorem dX0_difference_38 : decode cX0_difference 38 = .ok (.ior, 1) := by decide +kernel
theorem dX0_difference_39 : decode cX0_difference 39 = .ok (.ireturn, 1) := by decide +kernel
theorem dX0_missing_0 : decode cX0_missing 0 = .ok (.iconst 0, 1) := by decide +kernel
theorem dX0_missing_1 : decode cX0_missing 1 = .ok (.istore_n 3, 1) := by decide +kernel
theorem dX0_missing_2 : decode cX0_missing 2 = .ok (.iconst 0, 1) := by decide +kernel
theorem dX0_missing_3 : decode cX0_missing 3 = .ok (.istore 4, 2) := by decide +kernel
theorem dX0_missing_5 : decode cX0_missing 5 = .ok (.iload 4, 2) := by decide +kernel
theorem dX0_missing_7 : decode cX0_missing 7 = .ok (.aload_n 0, 1) := by decide +kernel
theorem dX0_missing_8 : decode cX0_missing 8 = .ok (.getfield 26, 3) := by decide +kernel
theorem dX0_missing_11 : decode cX0_missing 11 = .ok (.iload_n 1, 1) := by decide +kernel
theorem dX0_missing_12 : decode cX0_missing 12 = .ok (.baload, 1) := by decide +kernel
theorem dX0_missing_13 : decode cX0_missing 13 = .ok (.if_icmp .ge 43, 3) := by decide +kernel
theorem dX0_missing_16 : decode cX0_missing 16 = .ok (.aload_n 0, 1) := by decide +kernel
theorem dX0_missing_17 : decode cX0_missing 17 = .ok (.getfield 29, 3) := by decide +kernel
theorem dX0_missing_20 : decode cX0_missing 20 = .ok (.iload_n 1, 1) := by decide +kernel
theorem dX0_missing_21 : decode cX0_missing 21 = .ok (.bipush 17, 2) := by decide +kernel
theorem dX0_missing_23 : decode cX0_missing 23 = .ok (.imul, 1) := by decide +kernel
theorem dX0_missing_24 : decode cX0_missing 24 = .ok (.iload 4, 2) := by decide +kernel
theorem dX0_missing_26 : decode cX0_missing 26 = .ok (.iadd, 1) := by decide +kernel
theorem dX0_missing_27 : decode cX0_missing 27 = .ok (.baload, 1) := by decide +kernel
theorem dX0_missing_28 : decode cX0_missing 28 = .ok (.istore 5, 2) := by decide +kernel
theorem dX0_missing_30 : decode cX0_missing 30 = .ok (.aload_n 0, 1) := by decide +kernel
theorem dX0_missing_31 : decode cX0_missing 31 = .ok (.iload_n 2, 1) := by decide +kernel
theorem dX0_missing_32 : decode cX0_missing 32 = .ok (.iload 5, 2) := by decide +kernel
theorem dX0_missing_34 : decode cX0_missing 34 = .ok (.invokevirtual 106, 3) := by decide +kernel
theorem dX0_missing_37 : decode cX0_missing 37 = .ok (.ifCond .ne 13, 3) := by decide +kernel
theorem dX0_missing_40 : decode cX0_missing 40 = .ok (.iload_n 3, 1) := by decide +kernel
theorem dX0_missing_41 : decode cX0_missing 41 = .ok (.aload_n 0, 1) := by decide +kernel
theorem dX0_missing_42 : decode cX0_missing 42 = .ok (.iload 5, 2) := by decide +kernel
theorem dX0_missing_44 : decode cX0_missing 44 = .ok (.iload_n 2, 1) := by decide +kernel
theorem dX0_missing_45 : decode cX0_missing 45 = .ok (.invokevirtual 110, 3) := by decide +kernel
theorem dX0_missing_48 : decode cX0_missing 48 = .ok (.ior, 1) := by decide +kernel
theorem dX0_missing_49 : decode cX0_missing 49 = .ok (.istore_n 3, 1) := by decide +kernel
theorem dX0_missing_50 : decode cX0_missing 50 = .ok (.iinc 4 1, 3) := by decide +kernel
theorem dX0_missing_53 : decode cX0_missing 53 = .ok (.goto (-48), 3) := by decide +kernel
theorem dX0_missing_56 : decode cX0_missing 56 = .ok (.iload_n 3, 1) := by decide +kernel
theorem dX0_missing_57 : decode cX0_missing 57 = .ok (.ireturn, 1) := by decide +kernel
theorem dX0_hasLeaf_0 : decode cX0_hasLeaf 0 = .ok (.iconst 0, 1) := by decide +kernel
theorem dX0_hasLeaf_1 : decode cX0_hasLeaf 1 = .ok (.istore_n 3, 1) := by decide +kernel
theorem dX0_hasLeaf_2 : decode cX0_hasLeaf 2 = .ok (.iload_n 3, 1) := by decide +kernel
theorem dX0_hasLeaf_3 : decode cX0_hasLeaf 3 = .ok (.aload_n 0, 1) := by decide +kernel
theorem dX0_hasLeaf_4 : decode cX0_hasLeaf 4 = .ok (.getfield 26, 3) := by decide +kernel
theorem dX0_hasLeaf_7 : decode cX0_hasLeaf 7 = .ok (.iload_n 1, 1) := by decide +kernel
theorem dX0_hasLeaf_8 : decode cX0_hasLeaf 8 = .ok (.baload, 1) := by decide +kernel
theorem dX0_hasLeaf_9 : decode cX0_hasLeaf 9 = .ok (.if_icmp .ge 26, 3) := by decide +kernel
theorem dX0_hasLeaf_12 : decode cX0_hasLeaf 12 = .ok (.aload_n 0, 1) := by decide +kernel
theorem dX0_hasLeaf_13 : decode cX0_hasLeaf 13 = .ok (.getfield 29, 3) := by decide +kernel
theorem dX0_hasLeaf_16 : decode cX0_hasLeaf 16 = .ok (.iload_n 1, 1) := by decide +kernel
theorem dX0_hasLeaf_17 : decode cX0_hasLeaf 17 = .ok (.bipush 17, 2) := by decide +kernel
theorem dX0_hasLeaf_19 : decode cX0_hasLeaf 19 = .ok (.imul, 1) := by decide +kernel
theorem dX0_hasLeaf_20 : decode cX0_hasLeaf 20 = .ok (.iload_n 3, 1) := by decide +kernel
theorem dX0_hasLeaf_21 : decode cX0_hasLeaf 21 = .ok (.iadd, 1) := by decide +kernel
theorem dX0_hasLeaf_22 : decode cX0_hasLeaf 22 = .ok (.baload, 1) := by decide +kernel
theorem dX0_hasLeaf_23 : decode cX0_hasLeaf 23 = .ok (.iload_n 2, 1) := by decide +kernel
theorem dX0_hasLeaf_24 : decode cX0_hasLeaf 24 = .ok (.if_icmp .ne 5, 3) := by decide +kernel
theorem dX0_hasLeaf_27 : decode cX0_hasLeaf 27 = .ok (.iconst 1, 1) := by decide +kernel
theorem dX0_hasLeaf_28 : decode cX0_hasLeaf 28 = .ok (.ireturn, 1) := by decide +kernel
theorem dX0_hasLeaf_29 : decode cX0_hasLeaf 29 = .ok (.iinc 3 1, 3) := by decide +kernel
theorem dX0_hasLeaf_32 : decode cX0_hasLeaf 32 = .ok (.goto (-30), 3) := by decide +kernel
theorem dX0_hasLeaf_35 : decode cX0_hasLeaf 35 = .ok (.iconst 0, 1) := by decide +kernel
theorem dX0_hasLeaf_36 : decode cX0_hasLeaf 36 = .ok (.ireturn, 1) := by decide +kernel
theorem dX0_missingOf_0 : decode cX0_missingOf 0 = .ok (.iconst 0, 1) := by decide +kernel
theorem dX0_missingOf_1 : decode cX0_missingOf 1 = .ok (.istore_n 3, 1) := by decide +kernel
theorem dX0_missingOf_2 : decode cX0_missingOf 2 = .ok (.iload_n 1, 1) := by decide +kernel
theorem dX0_missingOf_3 : decode cX0_missingOf 3 = .ok (.iconst 5, 1) := by decide +kernel
theorem dX0_missingOf_4 : decode cX0_missingOf 4 = .ok (.imul, 1) := by decide +kernel
theorem dX0_missingOf_5 : decode cX0_missingOf 5 = .ok (.istore 4, 2) := by decide +kernel
theorem dX0_missingOf_7 : decode cX0_missingOf 7 = .ok (.iload 4, 2) := by decide +kernel
theorem dX0_missingOf_9 : decode cX0_missingOf 9 = .ok (.iload_n 1, 1) := by decide +kernel
theorem dX0_missingOf_10 : decode cX0_missingOf 10 = .ok (.iconst 5, 1) := by decide +kernel
theorem dX0_missingOf_11 : decode cX0_missingOf 11 = .ok (.imul, 1) := by decide +kernel
theorem dX0_missingOf_12 : decode cX0_missingOf 12 = .ok (.aload_n 0, 1) := by decide +kernel
theorem dX0_missingOf_13 : decode cX0_missingOf 13 = .ok (.getfield 13, 3) := by decide +kernel
theorem dX0_missingOf_16 : decode cX0_missingOf 16 = .ok (.iload_n 1, 1) := by decide +kernel
theorem dX0_missingOf_17 : decode cX0_missingOf 17 = .ok (.baload, 1) := by decide +kernel
theorem dX0_missingOf_18 : decode cX0_missingOf 18 = .ok (.iadd, 1) := by decide +kernel
theorem dX0_missingOf_19 : decode cX0_missingOf 19 = .ok (.if_icmp .ge 57, 3) := by decide +kernel
theorem dX0_missingOf_22 : decode cX0_missingOf 22 = .ok (.aload_n 0, 1) := by decide +kernel
theorem dX0_missingOf_23 : decode cX0_missingOf 23 = .ok (.iload_n 2, 1) := by decide +kernel
theorem dX0_missingOf_24 : decode cX0_missingOf 24 = .ok (.aload_n 0, 1) := by decide +kernel
theorem dX0_missingOf_25 : decode cX0_missingOf 25 = .ok (.getfield 16, 3) := by decide +kernel
theorem dX0_missingOf_28 : decode cX0_missingOf 28 = .ok (.iload 4, 2) := by decide +kernel
theorem dX0_missingOf_30 : decode cX0_missingOf 30 = .ok (.baload, 1) := by decide +kernel
theorem dX0_missingOf_31 : decode cX0_missingOf 31 = .ok (.invokevirtual 78, 3) := by decide +kernel
theorem dX0_missingOf_34 : decode cX0_missingOf 34 = .ok (.istore 5, 2) := by decide +kernel
theorem dX0_missingOf_36 : decode cX0_missingOf 36 = .ok (.iload 5, 2) := by decide +kernel
theorem dX0_missingOf_38 : decode cX0_missingOf 38 = .ok (.ifCond .lt 20, 3) := by decide +kernel
theorem dX0_missingOf_41 : decode cX0_missingOf 41 = .ok (.aload_n 0, 1) := by decide +kernel
theorem dX0_missingOf_42 : decode cX0_missingOf 42 = .ok (.getfield 19, 3) := by decide +kernel
theorem dX0_missingOf_45 : decode cX0_missingOf 45 = .ok (.iload 5, 2) := by decide +kernel
theorem dX0_missingOf_47 : decode cX0_missingOf 47 = .ok (.iaload, 1) := by decide +kernel
theorem dX0_missingOf_48 : decode cX0_missingOf 48 = .ok (.aload_n 0, 1) := by decide +kernel
theorem dX0_missingOf_49 : decode cX0_missingOf 49 = .ok (.getfield 19, 3) := by decide +kernel
theorem dX0_missingOf_52 : decode cX0_missingOf 52 = .ok (.iload 4, 2) := by decide +kernel
theorem dX0_missingOf_54 : decode cX0_missingOf 54 = .ok (.iaload, 1) := by decide +kernel
theorem dX0_missingOf_55 : decode cX0_missingOf 55 = .ok (.if_icmp .eq 15, 3) := by decide +kernel
theorem dX0_missingOf_58 : decode cX0_missingOf 58 = .ok (.iload_n 3, 1) := by decide +kernel
theorem dX0_missingOf_59 : decode cX0_missingOf 59 = .ok (.iconst 1, 1) := by decide +kernel
theorem dX0_missingOf_60 : decode cX0_missingOf 60 = .ok (.aload_n 0, 1) := by decide +kernel
theorem dX0_missingOf_61 : decode cX0_missingOf 61 = .ok (.getfield 16, 3) := by decide +kernel
theorem dX0_missingOf_64 : decode cX0_missingOf 64 = .ok (.iload 4, 2) := by decide +kernel
theorem dX0_missingOf_66 : decode cX0_missingOf 66 = .ok (.baload, 1) := by decide +kernel
theorem dX0_missingOf_67 : decode cX0_missingOf 67 = .ok (.ishl, 1) := by decide +kernel
theorem dX0_missingOf_68 : decode cX0_missingOf 68 = .ok (.ior, 1) := by decide +kernel
theorem dX0_missingOf_69 : decode cX0_missingOf 69 = .ok (.istore_n 3, 1) := by decide +kernel
theorem dX0_missingOf_70 : decode cX0_missingOf 70 = .ok (.iinc 4 1, 3) := by decide +kernel
theorem dX0_missingOf_73 : decode cX0_missingOf 73 = .ok (.goto (-66), 3) := by decide +kernel
theorem dX0_missingOf_76 : decode cX0_missingOf 76 = .ok (.iload_n 3, 1) := by decide +kernel
theorem dX0_missingOf_77 : decode cX0_missingOf 77 = .ok (.ireturn, 1) := by decide +kernel
theorem dX0_keys_0 : decode cX0_keys 0 = .ok (.aload_n 0, 1) := by decide +kernel
theorem dX0_keys_1 : decode cX0_keys 1 = .ok (.iload_n 1, 1) := by decide +kernel
theorem dX0_keys_2 : decode cX0_keys 2 = .ok (.invokevirtual 94, 3) := by decide +kernel
theorem dX0_keys_5 : decode cX0_keys 5 = .ok (.istore_n 2, 1) := by decide +kernel
theorem dX0_keys_6 : decode cX0_keys 6 = .ok (.iconst 0, 1) := by decide +kernel
theorem dX0_keys_7 : decode cX0_keys 7 = .ok (.istore_n 3, 1) := by decide +kernel
theorem dX0_keys_8 : decode cX0_keys 8 = .ok (.iconst 0, 1) := by decide +kernel
theorem dX0_keys_9 : decode cX0_keys 9 = .ok (.istore 4, 2) := by decide +kernel
theorem dX0_keys_11 : decode cX0_keys 11 = .ok (.iload_n 2, 1) := by decide +kernel
theorem dX0_keys_12 : decode cX0_keys 12 = .ok (.ifCond .lt 75, 3) := by decide +kernel
theorem dX0_keys_15 : decode cX0_keys 15 = .ok (.iload 4, 2) := by decide +kernel
theorem dX0_keys_17 : decode cX0_keys 17 = .ok (.aload_n 0, 1) := by decide +kernel
theorem dX0_keys_18 : decode cX0_keys 18 = .ok (.getfield 26, 3) := by decide +kernel
theorem dX0_keys_21 : decode cX0_keys 21 = .ok (.iload_n 2, 1) := by decide +kernel
theorem dX0_keys_22 : decode cX0_keys 22 = .ok (.baload, 1) := by decide +kernel
theorem dX0_keys_23 : decode cX0_keys 23 = .ok (.if_icmp .ge 64, 3) := by decide +kernel
theorem dX0_keys_26 : decode cX0_keys 26 = .ok (.aload_n 0, 1) := by decide +kernel
theorem dX0_keys_27 : decode cX0_keys 27 = .ok (.getfield 29, 3) := by decide +kernel
theorem dX0_keys_30 : decode cX0_keys 30 = .ok (.iload_n 2, 1) := by decide +kernel
theorem dX0_keys_31 : decode cX0_keys 31 = .ok (.bipush 17, 2) := by decide +kernel
theorem dX0_keys_33 : decode cX0_keys 33 = .ok (.imul, 1) := by decide +kernel
theorem dX0_keys_34 : decode cX0_keys 34 = .ok (.iload 4, 2) := by decide +kernel
theorem dX0_keys_36 : decode cX0_keys 36 = .ok (.iadd, 1) := by decide +kernel
theorem dX0_keys_37 : decode cX0_keys 37 = .ok (.baload, 1) := by decide +kernel
theorem dX0_keys_38 : decode cX0_keys 38 = .ok (.istore 5, 2) := by decide +kernel
theorem dX0_keys_40 : decode cX0_keys 40 = .ok (.iload 5, 2) := by decide +kernel
theorem dX0_keys_42 : decode cX0_keys 42 = .ok (.iconst 5, 1) := by decide +kernel
theorem dX0_keys_43 : decode cX0_keys 43 = .ok (.imul, 1) := by decide +kernel
theorem dX0_keys_44 : decode cX0_keys 44 = .ok (.istore 6, 2) := by decide +kernel
theorem dX0_keys_46 : decode cX0_keys 46 = .ok (.iload 6, 2) := by decide +kernel
theorem dX0_keys_48 : decode cX0_keys 48 = .ok (.iload 5, 2) := by decide +kernel
theorem dX0_keys_50 : decode cX0_keys 50 = .ok (.iconst 5, 1) := by decide +kernel
theorem dX0_keys_51 : decode cX0_keys 51 = .ok (.imul, 1) := by decide +kernel
theorem dX0_keys_52 : decode cX0_keys 52 = .ok (.aload_n 0, 1) := by decide +kernel
theorem dX0_keys_53 : decode cX0_keys 53 = .ok (.getfield 13, 3) := by decide +kernel
theorem dX0_keys_56 : decode cX0_keys 56 = .ok (.iload 5, 2) := by decide +kernel
theorem dX0_keys_58 : decode cX0_keys 58 = .ok (.baload, 1) := by decide +kernel
theorem dX0_keys_59 : decode cX0_keys 59 = .ok (.iadd, 1) := by decide +kernel
theorem dX0_keys_60 : decode cX0_keys 60 = .ok (.if_icmp .ge 21, 3) := by decide +kernel
theorem dX0_keys_63 : decode cX0_keys 63 = .ok (.iload_n 3, 1) := by decide +kernel
theorem dX0_keys_64 : decode cX0_keys 64 = .ok (.iconst 1, 1) := by decide +kernel
theorem dX0_keys_65 : decode cX0_keys 65 = .ok (.aload_n 0, 1) := by decide +kernel
theorem dX0_keys_66 : decode cX0_keys 66 = .ok (.getfield 16, 3) := by decide +kernel
theorem dX0_keys_69 : decode cX0_keys 69 = .ok (.iload 6, 2) := by decide +kernel
theorem dX0_keys_71 : decode cX0_keys 71 = .ok (.baload, 1) := by decide +kernel
theorem dX0_keys_72 : decode cX0_keys 72 = .ok (.ishl, 1) := by decide +kernel
theorem dX0_keys_73 : decode cX0_keys 73 = .ok (.ior, 1) := by decide +kernel
theorem dX0_keys_74 : decode cX0_keys 74 = .ok (.istore_n 3, 1) := by decide +kernel
theorem dX0_keys_75 : decode cX0_keys 75 = .ok (.iinc 6 1, 3) := by decide +kernel
theorem dX0_keys_78 : decode cX0_keys 78 = .ok (.goto (-32), 3) := by decide +kernel
theorem dX0_keys_81 : decode cX0_keys 81 = .ok (.iinc 4 1, 3) := by decide +kernel
theorem dX0_keys_84 : decode cX0_keys 84 = .ok (.goto (-73), 3) := by decide +kernel
theorem dX0_keys_87 : decode cX0_keys 87 = .ok (.iload_n 3, 1) := by decide +kernel
theorem dX0_keys_88 : decode cX0_keys 88 = .ok (.ireturn, 1) := by decide +kernel
end
section
set_option maxRecDepth 100000
theorem dX1_init_0 : decode cX1_init 0 = .ok (.aload_n 0, 1) := by decide +kernel
theorem dX1_init_1 : decode cX1_init 1 = .ok (.invokespecial 1, 3) := by decide +kernel
theorem dX1_init_4 : decode cX1_init 4 = .ok (.aload_n 0, 1) := by decide +kernel
theorem dX1_init_5 : decode cX1_init 5 = .ok (.iconst 5, 1) := by decide +kernel
theorem dX1_init_6 : decode cX1_init 6 = .ok (.newarray .int, 2) := by decide +kernel
theorem dX1_init_8 : decode cX1_init 8 = .ok (.putfield 7, 3) := by decide +kernel
theorem dX1_init_11 : decode cX1_init 11 = .ok (.aload_n 0, 1) := by decide +kernel
theorem dX1_init_12 : decode cX1_init 12 = .ok (.sipush 160, 3) := by decide +kernel
theorem dX1_init_15 : decode cX1_init 15 = .ok (.newarray .int, 2) := by decide +kernel
theorem dX1_init_17 : decode cX1_init 17 = .ok (.putfield 13, 3) := by decide +kernel
theorem dX1_init_20 : decode cX1_init 20 = .ok (.aload_n 0, 1) := by decide +kernel
theorem dX1_init_21 : decode cX1_init 21 = .ok (.iconst 1, 1) := by decide +kernel
theorem dX1_init_22 : decode cX1_init 22 = .ok (.putfield 16, 3) := by decide +kernel
theorem dX1_init_25 : decode cX1_init 25 = .ok (.return_, 1) := by decide +kernel
theorem dX1_put_0 : decode cX1_put 0 = .ok (.iload_n 1, 1) := by decide +kernel
theorem dX1_put_1 : decode cX1_put 1 = .ok (.ifCond .lt 9, 3) := by decide +kernel
theorem dX1_put_4 : decode cX1_put 4 = .ok (.iload_n 1, 1) := by decide +kernel
theorem dX1_put_5 : decode cX1_put 5 = .ok (.bipush 31, 2) := by decide +kernel
theorem dX1_put_7 : decode cX1_put 7 = .ok (.if_icmp .le 5, 3) := by decide +kernel
theorem dX1_put_10 : decode cX1_put 10 = .ok (.iconst 0, 1) := by decide +kernel
theorem dX1_put_11 : decode cX1_put 11 = .ok (.ireturn, 1) := by decide +kernel
theorem dX1_put_12 : decode cX1_put 12 = .ok (.aload_n 0, 1) := by decide +kernel
theorem dX1_put_13 : decode cX1_put 13 = .ok (.getfield 7, 3) := by decide +kernel
theorem dX1_put_16 : decode cX1_put 16 = .ok (.iconst 0, 1) := by decide +kernel
theorem dX1_put_17 : decode cX1_put 17 = .ok (.aload_n 0, 1) := by decide +kernel
theorem dX1_put_18 : decode cX1_put 18 = .ok (.getfield 7, 3) := by decide +kernel
theorem dX1_put_21 : decode cX1_put 21 = .ok (.iconst 0, 1) := by decide +kernel
theorem dX1_put_22 : decode cX1_put 22 = .ok (.iaload, 1) := by decide +kernel
theorem dX1_put_23 : decode cX1_put 23 = .ok (.iconst 1, 1) := by decide +kernel
theorem dX1_put_24 : decode cX1_put 24 = .ok (.iload_n 1, 1) := by decide +kernel
theorem dX1_put_25 : decode cX1_put 25 = .ok (.ishl, 1) := by decide +kernel
theorem dX1_put_26 : decode cX1_put 26 = .ok (.ior, 1) := by decide +kernel
theorem dX1_put_27 : decode cX1_put 27 = .ok (.iastore, 1) := by decide +kernel
theorem dX1_put_28 : decode cX1_put 28 = .ok (.aload_n 0, 1) := by decide +kernel
theorem dX1_put_29 : decode cX1_put 29 = .ok (.getfield 13, 3) := by decide +kernel
theorem dX1_put_32 : decode cX1_put 32 = .ok (.iload_n 1, 1) := by decide +kernel
theorem dX1_put_33 : decode cX1_put 33 = .ok (.iload_n 2, 1) := by decide +kernel
theorem dX1_put_34 : decode cX1_put 34 = .ok (.iastore, 1) := by decide +kernel
theorem dX1_put_35 : decode cX1_put 35 = .ok (.iconst 1, 1) := by decide +kernel
theorem dX1_put_36 : decode cX1_put 36 = .ok (.ireturn, 1) := by decide +kernel
theorem dX1_remove_0 : decode cX1_remove 0 = .ok (.aload_n 0, 1) := by decide +kernel
theorem dX1_remove_1 : decode cX1_remove 1 = .ok (.iconst 0, 1) := by decide +kernel
theorem dX1_remove_2 : decode cX1_remove 2 = .ok (.iload_n 1, 1) := by decide +kernel
theorem dX1_remove_3 : decode cX1_remove 3 = .ok (.invokevirtual 23, 3) := by decide +kernel
theorem dX1_remove_6 : decode cX1_remove 6 = .ok (.ifCond .ne 5, 3) := by decide +kernel
theorem dX1_remove_9 : decode cX1_remove 9 = .ok (.iconst 0, 1) := by decide +kernel
theorem dX1_remove_10 : decode cX1_remove 10 = .ok (.ireturn, 1) := by decide +kernel
theorem dX1_remove_11 : decode cX1_remove 11 = .ok (.aload_n 0, 1) := by decide +kernel
theorem dX1_remove_12 : decode cX1_remove 12 = .ok (.getfield 7, 3) := by decide +kernel
theorem dX1_remove_15 : decode cX1_remove 15 = .ok (.iconst 0, 1) := by decide +kernel
theorem dX1_remove_16 : decode cX1_remove 16 = .ok (.aload_n 0, 1) := by decide +kernel
theorem dX1_remove_17 : decode cX1_remove 17 = .ok (.getfield 7, 3) := by decide +kernel
theorem dX1_remove_20 : decode cX1_remove 20 = .ok (.iconst 0, 1) := by decide +kernel
theorem dX1_remove_21 : decode cX1_remove 21 = .ok (.iaload, 1) := by decide +kernel
theorem dX1_remove_22 : decode cX1_remove 22 = .ok (.iconst 1, 1) := by decide +kernel
theorem dX1_remove_23 : decode cX1_remove 23 = .ok (.iload_n 1, 1) := by decide +kernel
theorem dX1_remove_24 : decode cX1_remove 24 = .ok (.ishl, 1) := by decide +kernel
theorem dX1_remove_25 : decode cX1_remove 25 = .ok (.iconst (-1), 1) := by decide +kernel
theorem dX1_remove_26 : decode cX1_remove 26 = .ok (.ixor, 1) := by decide +kernel
theorem dX1_remove_27 : decode cX1_remove 27 = .ok (.iand, 1) := by decide +kernel
theorem dX1_remove_28 : decode cX1_remove 28 = .ok (.iastore, 1) := by decide +kernel
theorem dX1_remove_29 : decode cX1_remove 29 = .ok (.iconst 1, 1) := by decide +kernel
theorem dX1_remove_30 : decode cX1_remove 30 = .ok (.ireturn, 1) := by decide +kernel
theorem dX1_in_0 : decode cX1_in 0 = .ok (.iload_n 1, 1) := by decide +kernel
theorem dX1_in_1 : decode cX1_in 1 = .ok (.ifCond .lt 31, 3) := by decide +kernel
theorem dX1_in_4 : decode cX1_in 4 = .ok (.iload_n 2, 1) := by decide +kernel
theorem dX1_in_5 : decode cX1_in 5 = .ok (.ifCond .lt 27, 3) := by decide +kernel
theorem dX1_in_8 : decode cX1_in 8 = .ok (.iload_n 2, 1) := by decide +kernel
theorem dX1_in_9 : decode cX1_in 9 = .ok (.bipush 31, 2) := by decide +kernel
theorem dX1_in_11 : decode cX1_in 11 = .ok (.if_icmp .gt 21, 3) := by decide +kernel
theorem dX1_in_14 : decode cX1_in 14 = .ok (.aload_n 0, 1) := by decide +kernel
theorem dX1_in_15 : decode cX1_in 15 = .ok (.getfield 7, 3) := by decide +kernel
theorem dX1_in_18 : decode cX1_in 18 = .ok (.iload_n 1, 1) := by decide +kernel
theorem dX1_in_19 : decode cX1_in 19 = .ok (.iaload, 1) := by decide +kernel
theorem dX1_in_20 : decode cX1_in 20 = .ok (.iload_n 2, 1) := by decide +kernel
theorem dX1_in_21 : decode cX1_in 21 = .ok (.ishr, 1) := by decide +kernel
theorem dX1_in_22 : decode cX1_in 22 = .ok (.iconst 1, 1) := by decide +kernel
theorem dX1_in_23 : decode cX1_in 23 = .ok (.iand, 1) := by decide +kernel
theorem dX1_in_24 : decode cX1_in 24 = .ok (.iconst 1, 1) := by decide +kernel
theorem dX1_in_25 : decode cX1_in 25 = .ok (.if_icmp .ne 7, 3) := by decide +kernel
theorem dX1_in_28 : decode cX1_in 28 = .ok (.iconst 1, 1) := by decide +kernel
theorem dX1_in_29 : decode cX1_in 29 = .ok (.goto 4, 3) := by decide +kernel
theorem dX1_in_32 : decode cX1_in 32 = .ok (.iconst 0, 1) := by decide +kernel
theorem dX1_in_33 : decode cX1_in 33 = .ok (.ireturn, 1) := by decide +kernel
theorem dX1_save_0 : decode cX1_save 0 = .ok (.aload_n 0, 1) := by decide +kernel
theorem dX1_save_1 : decode cX1_save 1 = .ok (.dup, 1) := by decide +kernel
theorem dX1_save_2 : decode cX1_save 2 = .ok (.getfield 20, 3) := by decide +kernel
theorem dX1_save_5 : decode cX1_save 5 = .ok (.iconst 1, 1) := by decide +kernel
theorem dX1_save_6 : decode cX1_save 6 = .ok (.iadd, 1) := by decide +kernel
theorem dX1_save_7 : decode cX1_save 7 = .ok (.putfield 20, 3) := by decide +kernel
theorem dX1_save_10 : decode cX1_save 10 = .ok (.aload_n 0, 1) := by decide +kernel
theorem dX1_save_11 : decode cX1_save 11 = .ok (.iconst 0, 1) := by decide +kernel
theorem dX1_save_12 : decode cX1_save 12 = .ok (.iconst 1, 1) := by decide +kernel
theorem dX1_save_13 : decode cX1_save 13 = .ok (.aload_n 0, 1) := by decide +kernel
theorem dX1_save_14 : decode cX1_save 14 = .ok (.getfield 20, 3) := by decide +kernel
theorem dX1_save_17 : decode cX1_save 17 = .ok (.iconst 4, 1) := by decide +kernel
theorem dX1_save_18 : decode cX1_save 18 = .ok (.irem, 1) := by decide +kernel
theorem dX1_save_19 : decode cX1_save 19 = .ok (.iadd, 1) := by decide +kernel
theorem dX1_save_20 : decode cX1_save 20 = .ok (.invokevirtual 27, 3) := by decide +kernel
theorem dX1_save_23 : decode cX1_save 23 = .ok (.aload_n 0, 1) := by decide +kernel
theorem dX1_save_24 : decode cX1_save 24 = .ok (.aload_n 0, 1) := by decide +kernel
theorem dX1_save_25 : decode cX1_save 25 = .ok (.getfield 20, 3) := by decide +kernel
theorem dX1_save_28 : decode cX1_save 28 = .ok (.aload_n 0, 1) := by decide +kernel
theorem dX1_save_29 : decode cX1_save 29 = .ok (.getfield 16, 3) := by decide +kernel
theorem dX1_save_32 : decode cX1_save 32 = .ok (.isub, 1) := by decide +kernel
theorem dX1_save_33 : decode cX1_save 33 = .ok (.iconst 4, 1) := by decide +kernel
theorem dX1_save_34 : decode cX1_save 34 = .ok (.if_icmp .lt 12, 3) := by decide +kernel
theorem dX1_save_37 : decode cX1_save 37 = .ok (.aload_n 0, 1) := by decide +kernel
theorem dX1_save_38 : decode cX1_save 38 = .ok (.getfield 20, 3) := by decide +kernel
theorem dX1_save_41 : decode cX1_save 41 = .ok (.iconst 3, 1) := by decide +kernel
theorem dX1_save_42 : decode cX1_save 42 = .ok (.isub, 1) := by decide +kernel
theorem dX1_save_43 : decode cX1_save 43 = .ok (.goto 7, 3) := by decide +kernel
theorem dX1_save_46 : decode cX1_save 46 = .ok (.aload_n 0, 1) := by decide +kernel
theorem dX1_save_47 : decode cX1_save 47 = .ok (.getfield 16, 3) := by decide +kernel
theorem dX1_save_50 : decode cX1_save 50 = .ok (.putfield 16, 3) := by decide +kernel
theorem dX1_save_53 : decode cX1_save 53 = .ok (.aload_n 0, 1) := by decide +kernel
theorem dX1_save_54 : decode cX1_save 54 = .ok (.getfield 20, 3) := by decide +kernel
theorem dX1_save_57 : decode cX1_save 57 = .ok (.ireturn, 1) := by decide +kernel
theorem dX1_copy_0 : decode cX1_copy 0 = .ok (.aload_n 0, 1) := by decide +kernel
theorem dX1_copy_1 : decode cX1_copy 1 = .ok (.getfield 7, 3) := by decide +kernel
theorem dX1_copy_4 : decode cX1_copy 4 = .ok (.iload_n 2, 1) := by decide +kernel
theorem dX1_copy_5 : decode cX1_copy 5 = .ok (.aload_n 0, 1) := by decide +kernel
theorem dX1_copy_6 : decode cX1_copy 6 = .ok (.getfield 7, 3) := by decide +kernel
theorem dX1_copy_9 : decode cX1_copy 9 = .ok (.iload_n 1, 1) := by decide +kernel
theorem dX1_copy_10 : decode cX1_copy 10 = .ok (.iaload, 1) := by decide +kernel
theorem dX1_copy_11 : decode cX1_copy 11 = .ok (.iastore, 1) := by decide +kernel
theorem dX1_copy_12 : decode cX1_copy 12 = .ok (.iconst 0, 1) := by decide +kernel
theorem dX1_copy_13 : decode cX1_copy 13 = .ok (.istore_n 3, 1) := by decide +kernel
theorem dX1_copy_14 : decode cX1_copy 14 = .ok (.iload_n 3, 1) := by decide +kernel
theorem dX1_copy_15 : decode cX1_copy 15 = .ok (.bipush 32, 2) := by decide +kernel
theorem dX1_copy_17 : decode cX1_copy 17 = .ok (.if_icmp .ge 31, 3) := by decide +kernel
theorem dX1_copy_20 : decode cX1_copy 20 = .ok (.aload_n 0, 1) := by decide +kernel
theorem dX1_copy_21 : decode cX1_copy 21 = .ok (.getfield 13, 3) := by decide +kernel
theorem dX1_copy_24 : decode cX1_copy 24 = .ok (.bipush 32, 2) := by decide +kernel
theorem dX1_copy_26 : decode cX1_copy 26 = .ok (.iload_n 2, 1) := by decide +kernel
theorem dX1_copy_27 : decode cX1_copy 27 = .ok (.imul, 1) := by decide +kernel
theorem dX1_copy_28 : decode cX1_copy 28 = .ok (.iload_n 3, 1) := by decide +kernel
theorem dX1_copy_29 : decode cX1_copy 29 = .ok (.iadd, 1) := by decide +kernel
theorem dX1_copy_30 : decode cX1_copy 30 = .ok (.aload_n 0, 1) := by decide +kernel
theorem dX1_copy_31 : decode cX1_copy 31 = .ok (.getfield 13, 3) := by decide +kernel
theorem dX1_copy_34 : decode cX1_copy 34 = .ok (.bipush 32, 2) := by decide +kernel
theorem dX1_copy_36 : decode cX1_copy 36 = .ok (.iload_n 1, 1) := by decide +kernel
theorem dX1_copy_37 : decode cX1_copy 37 = .ok (.imul, 1) := by decide +kernel
theorem dX1_copy_38 : decode cX1_copy 38 = .ok (.iload_n 3, 1) := by decide +kernel
theorem dX1_copy_39 : decode cX1_copy 39 = .ok (.iadd, 1) := by decide +kernel
theorem dX1_copy_40 : decode cX1_copy 40 = .ok (.iaload, 1) := by decide +kernel
theorem dX1_copy_41 : decode cX1_copy 41 = .ok (.iastore, 1) := by decide +kernel
theorem dX1_copy_42 : decode cX1_copy 42 = .ok (.iinc 3 1, 3) := by decide +kernel
theorem dX1_copy_45 : decode cX1_copy 45 = .ok (.goto (-31), 3) := by decide +kernel
theorem dX1_copy_48 : decode cX1_copy 48 = .ok (.return_, 1) := by decide +kernel
theorem dX1_goBack_0 : decode cX1_goBack 0 = .ok (.aload_n 0, 1) := by decide +kernel
theorem dX1_goBack_1 : decode cX1_goBack 1 = .ok (.iload_n 1, 1) := by decide +kernel
theorem dX1_goBack_2 : decode cX1_goBack 2 = .ok (.invokevirtual 31, 3) := by decide +kernel
theorem dX1_goBack_5 : decode cX1_goBack 5 = .ok (.istore_n 2, 1) := by decide +kernel
theorem dX1_goBack_6 : decode cX1_goBack 6 = .ok (.iload_n 2, 1) := by decide +kernel
theorem dX1_goBack_7 : decode cX1_goBack 7 = .ok (.iconst 1, 1) := by decide +kernel
theorem dX1_goBack_8 : decode cX1_goBack 8 = .ok (.if_icmp .ge 5, 3) := by decide +kernel
theorem dX1_goBack_11 : decode cX1_goBack 11 = .ok (.iconst 0, 1) := by decide +kernel
theorem dX1_goBack_12 : decode cX1_goBack 12 = .ok (.ireturn, 1) := by decide +kernel
theorem dX1_goBack_13 : decode cX1_goBack 13 = .ok (.aload_n 0, 1) := by decide +kernel
theorem dX1_goBack_14 : decode cX1_goBack 14 = .ok (.iload_n 2, 1) := by decide +kernel
theorem dX1_goBack_15 : decode cX1_goBack 15 = .ok (.iconst 0, 1) := by decide +kernel
theorem dX1_goBack_16 : decode cX1_goBack 16 = .ok (.invokevirtual 27, 3) := by decide +kernel
theorem dX1_goBack_19 : decode cX1_goBack 19 = .ok (.aload_n 0, 1) := by decide +kernel
theorem dX1_goBack_20 : decode cX1_goBack 20 = .ok (.iload_n 1, 1) := by decide +kernel
theorem dX1_goBack_21 : decode cX1_goBack 21 = .ok (.putfield 20, 3) := by decide +kernel
theorem dX1_goBack_24 : decode cX1_goBack 24 = .ok (.iconst 1, 1) := by decide +kernel
theorem dX1_goBack_25 : decode cX1_goBack 25 = .ok (.ireturn, 1) := by decide +kernel
theorem dX1_table_0 : decode cX1_table 0 = .ok (.iload_n 1, 1) := by decide +kernel
theorem dX1_table_1 : decode cX1_table 1 = .ok (.ifCond .ne 7, 3) := by decide +kernel
theorem dX1_table_4 : decode cX1_table 4 = .ok (.iconst 0, 1) := by decide +kernel
theorem dX1_table_5 : decode cX1_table 5 = .ok (.goto 28, 3) := by decide +kernel
theorem dX1_table_8 : decode cX1_table 8 = .ok (.iload_n 1, 1) := by decide +kernel
theorem dX1_table_9 : decode cX1_table 9 = .ok (.aload_n 0, 1) := by decide +kernel
theorem dX1_table_10 : decode cX1_table 10 = .ok (.getfield 16, 3) := by decide +kernel
theorem dX1_table_13 : decode cX1_table 13 = .ok (.if_icmp .lt 19, 3) := by decide +kernel
theorem dX1_table_16 : decode cX1_table 16 = .ok (.iload_n 1, 1) := by decide +kernel
theorem dX1_table_17 : decode cX1_table 17 = .ok (.aload_n 0, 1) := by decide +kernel
theorem dX1_table_18 : decode cX1_table 18 = .ok (.getfield 20, 3) := by decide +kernel
theorem dX1_table_21 : decode cX1_table 21 = .ok (.if_icmp .gt 11, 3) := by decide +kernel
theorem dX1_table_24 : decode cX1_table 24 = .ok (.iconst 1, 1) := by decide +kernel
theorem dX1_table_25 : decode cX1_table 25 = .ok (.iload_n 1, 1) := by decide +kernel
theorem dX1_table_26 : decode cX1_table 26 = .ok (.iconst 4, 1) := by decide +kernel
theorem dX1_table_27 : decode cX1_table 27 = .ok (.irem, 1) := by decide +kernel
theorem dX1_table_28 : decode cX1_table 28 = .ok (.iadd, 1) := by decide +kernel
theorem dX1_table_29 : decode cX1_table 29 = .ok (.goto 4, 3) := by decide +kernel
theorem dX1_table_32 : decode cX1_table 32 = .ok (.iconst (-1), 1) := by decide +kernel
theorem dX1_table_33 : decode cX1_table 33 = .ok (.ireturn, 1) := by decide +kernel
theorem dX1_kept_0 : decode cX1_kept 0 = .ok (.aload_n 0, 1) := by decide +kernel
theorem dX1_kept_1 : decode cX1_kept 1 = .ok (.getfield 20, 3) := by decide +kernel
theorem dX1_kept_4 : decode cX1_kept 4 = .ok (.aload_n 0, 1) := by decide +kernel
theorem dX1_kept_5 : decode cX1_kept 5 = .ok (.getfield 16, 3) := by decide +kernel
theorem dX1_kept_8 : decode cX1_kept 8 = .ok (.if_icmp .ge 7, 3) := by decide +kernel
theorem dX1_kept_11 : decode cX1_kept 11 = .ok (.iconst 0, 1) := by decide +kernel
theorem dX1_kept_12 : decode cX1_kept 12 = .ok (.goto 16, 3) := by decide +kernel
theorem dX1_kept_15 : decode cX1_kept 15 = .ok (.aload_n 0, 1) := by decide +kernel
theorem dX1_kept_16 : decode cX1_kept 16 = .ok (.getfield 16, 3) := by decide +kernel
theorem dX1_kept_19 : decode cX1_kept 19 = .ok (.sipush 1000, 3) := by decide +kernel
theorem dX1_kept_22 : decode cX1_kept 22 = .ok (.aload_n 0, 1) := by decide +kernel
theorem dX1_kept_23 : decode cX1_kept 23 = .ok (.getfield 20, 3) := by decide +kernel
theorem dX1_kept_26 : decode cX1_kept 26 = .ok (.imul, 1) := by decide +kernel
theorem dX1_kept_27 : decode cX1_kept 27 = .ok (.iadd, 1) := by decide +kernel
theorem dX1_kept_28 : decode cX1_kept 28 = .ok (.ireturn, 1) := by decide +kernel
theorem dX1_has_0 : decode cX1_has 0 = .ok (.aload_n 0, 1) := by decide +kernel
theorem dX1_has_1 : decode cX1_has 1 = .ok (.iload_n 1, 1) := by decide +kernel
theorem dX1_has_2 : decode cX1_has 2 = .ok (.invokevirtual 31, 3) := by decide +kernel
theorem dX1_has_5 : decode cX1_has 5 = .ok (.istore_n 3, 1) := by decide +kernel
theorem dX1_has_6 : decode cX1_has 6 = .ok (.aload_n 0, 1) := by decide +kernel
theorem dX1_has_7 : decode cX1_has 7 = .ok (.iload_n 3, 1) := by decide +kernel
theorem dX1_has_8 : decode cX1_has 8 = .ok (.iload_n 2, 1) := by decide +kernel
theorem dX1_has_9 : decode cX1_has 9 = .ok (.invokevirtual 23, 3) := by decide +kernel
theorem dX1_has_12 : decode cX1_has 12 = .ok (.ireturn, 1) := by decide +kernel
theorem dX1_get_0 : decode cX1_get 0 = .ok (.aload_n 0, 1) := by decide +kernel
theorem dX1_get_1 : decode cX1_get 1 = .ok (.iload_n 1, 1) := by decide +kernel
theorem dX1_get_2 : decode cX1_get 2 = .ok (.invokevirtual 31, 3) := by decide +kernel
theorem dX1_get_5 : decode cX1_get 5 = .ok (.istore_n 3, 1) := by decide +kernel
theorem dX1_get_6 : decode cX1_get 6 = .ok (.aload_n 0, 1) := by decide +kernel
theorem dX1_get_7 : decode cX1_get 7 = .ok (.iload_n 3, 1) := by decide +kernel
theorem dX1_get_8 : decode cX1_get 8 = .ok (.iload_n 2, 1) := by decide +kernel
theorem dX1_get_9 : decode cX1_get 9 = .ok (.invokevirtual 23, 3) := by decide +kernel
theorem dX1_get_12 : decode cX1_get 12 = .ok (.ifCond .eq 17, 3) := by decide +kernel
theorem dX1_get_15 : decode cX1_get 15 = .ok (.aload_n 0, 1) := by decide +kernel
theorem dX1_get_16 : decode cX1_get 16 = .ok (.getfield 13, 3) := by decide +kernel
theorem dX1_get_19 : decode cX1_get 19 = .ok (.bipush 32, 2) := by decide +kernel
theorem dX1_get_21 : decode cX1_get 21 = .ok (.iload_n 3, 1) := by decide +kernel
theorem dX1_get_22 : decode cX1_get 22 = .ok (.imul, 1) := by decide +kernel
theorem dX1_get_23 : decode cX1_get 23 = .ok (.iload_n 2, 1) := by decide +kernel
theorem dX1_get_24 : decode cX1_get 24 = .ok (.iadd, 1) := by decide +kernel
theorem dX1_get_25 : decode cX1_get 25 = .ok (.iaload, 1) := by decide +kernel
theorem dX1_get_26 : decode cX1_get 26 = .ok (.goto 4, 3) := by decide +kernel
theorem dX1_get_29 : decode cX1_get 29 = .ok (.iconst 0, 1) := by decide +kernel
theorem dX1_get_30 : decode cX1_get 30 = .ok (.ireturn, 1) := by decide +kernel
theorem dX1_count_0 : decode cX1_count 0 = .ok (.aload_n 0, 1) := by decide +kernel
theorem dX1_count_1 : decode cX1_count 1 = .ok (.iload_n 1, 1) := by decide +kernel
theorem dX1_count_2 : decode cX1_count 2 = .ok (.bipush 32, 2) := by decide +kernel
theorem dX1_count_4 : decode cX1_count 4 = .ok (.invokevirtual 35, 3) := by decide +kernel
theorem dX1_count_7 : decode cX1_count 7 = .ok (.ireturn, 1) := by decide +kernel
theorem dX1_rank_0 : decode cX1_rank 0 = .ok (.aload_n 0, 1) := by decide +kernel
theorem dX1_rank_1 : decode cX1_rank 1 = .ok (.iload_n 1, 1) := by decide +kernel
theorem dX1_rank_2 : decode cX1_rank 2 = .ok (.invokevirtual 31, 3) := by decide +kernel
theorem dX1_rank_5 : decode cX1_rank 5 = .ok (.istore_n 3, 1) := by decide +kernel
theorem dX1_rank_6 : decode cX1_rank 6 = .ok (.iload_n 3, 1) := by decide +kernel
theorem dX1_rank_7 : decode cX1_rank 7 = .ok (.ifCond .ge 7, 3) := by decide +kernel
theorem dX1_rank_10 : decode cX1_rank 10 = .ok (.iconst (-1), 1) := by decide +kernel
theorem dX1_rank_11 : decode cX1_rank 11 = .ok (.goto 4, 3) := by decide +kernel
theorem dX1_rank_14 : decode cX1_rank 14 = .ok (.iconst 0, 1) := by decide +kernel
theorem dX1_rank_15 : decode cX1_rank 15 = .ok (.istore 4, 2) := by decide +kernel
theorem dX1_rank_17 : decode cX1_rank 17 = .ok (.iconst 0, 1) := by decide +kernel
theorem dX1_rank_18 : decode cX1_rank 18 = .ok (.istore 5, 2) := by decide +kernel
theorem dX1_rank_20 : decode cX1_rank 20 = .ok (.iload 5, 2) := by decide +kernel
theorem dX1_rank_22 : decode cX1_rank 22 = .ok (.bipush 32, 2) := by decide +kernel
theorem dX1_rank_24 : decode cX1_rank 24 = .ok (.if_icmp .ge 36, 3) := by decide +kernel
theorem dX1_rank_27 : decode cX1_rank 27 = .ok (.iload 5, 2) := by decide +kernel
theorem dX1_rank_29 : decode cX1_rank 29 = .ok (.iload_n 2, 1) := by decide +kernel
theorem dX1_rank_30 : decode cX1_rank 30 = .ok (.if_icmp .ge 20, 3) := by decide +kernel
theorem dX1_rank_33 : decode cX1_rank 33 = .ok (.aload_n 0, 1) := by decide +kernel
theorem dX1_rank_34 : decode cX1_rank 34 = .ok (.iload_n 3, 1) := by decide +kernel
theorem dX1_rank_35 : decode cX1_rank 35 = .ok (.iload 5, 2) := by decide +kernel
theorem dX1_rank_37 : decode cX1_rank 37 = .ok (.invokevirtual 23, 3) := by decide +kernel
theorem dX1_rank_40 : decode cX1_rank 40 = .ok (.ifCond .eq 10, 3) := by decide +kernel
theorem dX1_rank_43 : decode cX1_rank 43 = .ok (.iload 4, 2) := by decide +kernel
theorem dX1_rank_45 : decode cX1_rank 45 = .ok (.iconst 1, 1) := by decide +kernel
theorem dX1_rank_46 : decode cX1_rank 46 = .ok (.iadd, 1) := by decide +kernel
theorem dX1_rank_47 : decode cX1_rank 47 = .ok (.goto 5, 3) := by decide +kernel
theorem dX1_rank_50 : decode cX1_rank 50 = .ok (.iload 4, 2) := by decide +kernel
theorem dX1_rank_52 : decode cX1_rank 52 = .ok (.istore 4, 2) := by decide +kernel
theorem dX1_rank_54 : decode cX1_rank 54 = .ok (.iinc 5 1, 3) := by decide +kernel
theorem dX1_rank_57 : decode cX1_rank 57 = .ok (.goto (-37), 3) := by decide +kernel
theorem dX1_rank_60 : decode cX1_rank 60 = .ok (.iload 4, 2) := by decide +kernel
theorem dX1_rank_62 : decode cX1_rank 62 = .ok (.ireturn, 1) := by decide +kernel
theorem dX1_from_0 : decode cX1_from 0 = .ok (.aload_n 0, 1) := by decide +kernel
theorem dX1_from_1 : decode cX1_from 1 = .ok (.iload_n 1, 1) := by decide +kernel
theorem dX1_from_2 : decode cX1_from 2 = .ok (.invokevirtual 31, 3) := by decide +kernel
theorem dX1_from_5 : decode cX1_from 5 = .ok (.istore_n 3, 1) := by decide +kernel
theorem dX1_from_6 : decode cX1_from 6 = .ok (.iconst 0, 1) := by decide +kernel
theorem dX1_from_7 : decode cX1_from 7 = .ok (.istore 4, 2) := by decide +kernel
theorem dX1_from_9 : decode cX1_from 9 = .ok (.iload 4, 2) := by decide +kernel
theorem dX1_from_11 : decode cX1_from 11 = .ok (.bipush 32, 2) := by decide +kernel
theorem dX1_from_13 : decode cX1_from 13 = .ok (.if_icmp .ge 28, 3) := by decide +kernel
theorem dX1_from_16 : decode cX1_from 16 = .ok (.iload 4, 2) := by decide +kernel
theorem dX1_from_18 : decode cX1_from 18 = .ok (.iload_n 2, 1) := by decide +kernel
theorem dX1_from_19 : decode cX1_from 19 = .ok (.if_icmp .lt 16, 3) := by decide +kernel
theorem dX1_from_22 : decode cX1_from 22 = .ok (.aload_n 0, 1) := by decide +kernel
theorem dX1_from_23 : decode cX1_from 23 = .ok (.iload_n 3, 1) := by decide +kernel
theorem dX1_from_24 : decode cX1_from 24 = .ok (.iload 4, 2) := by decide +kernel
theorem dX1_from_26 : decode cX1_from 26 = .ok (.invokevirtual 23, 3) := by decide +kernel
theorem dX1_from_29 : decode cX1_from 29 = .ok (.ifCond .eq 6, 3) := by decide +kernel
theorem dX1_from_32 : decode cX1_from 32 = .ok (.iload 4, 2) := by decide +kernel
theorem dX1_from_34 : decode cX1_from 34 = .ok (.ireturn, 1) := by decide +kernel
theorem dX1_from_35 : decode cX1_from 35 = .ok (.iinc 4 1, 3) := by decide +kernel
theorem dX1_from_38 : decode cX1_from 38 = .ok (.goto (-29), 3) := by decide +kernel
theorem dX1_from_41 : decode cX1_from 41 = .ok (.iconst (-1), 1) := by decide +kernel
theorem dX1_from_42 : decode cX1_from 42 = .ok (.ireturn, 1) := by decide +kernel
theorem dX1_upTo_0 : decode cX1_upTo 0 = .ok (.aload_n 0, 1) := by decide +kernel
theorem dX1_upTo_1 : decode cX1_upTo 1 = .ok (.iload_n 1, 1) := by decide +kernel
theorem dX1_upTo_2 : decode cX1_upTo 2 = .ok (.invokevirtual 31, 3) := by decide +kernel
theorem dX1_upTo_5 : decode cX1_upTo 5 = .ok (.istore_n 3, 1) := by decide +kernel
theorem dX1_upTo_6 : decode cX1_upTo 6 = .ok (.bipush 31, 2) := by decide +kernel
theorem dX1_upTo_8 : decode cX1_upTo 8 = .ok (.istore 4, 2) := by decide +kernel
theorem dX1_upTo_10 : decode cX1_upTo 10 = .ok (.iload 4, 2) := by decide +kernel
theorem dX1_upTo_12 : decode cX1_upTo 12 = .ok (.ifCond .lt 28, 3) := by decide +kernel
theorem dX1_upTo_15 : decode cX1_upTo 15 = .ok (.iload 4, 2) := by decide +kernel
theorem dX1_upTo_17 : decode cX1_upTo 17 = .ok (.iload_n 2, 1) := by decide +kernel
theorem dX1_upTo_18 : decode cX1_upTo 18 = .ok (.if_icmp .gt 16, 3) := by decide +kernel
theorem dX1_upTo_21 : decode cX1_upTo 21 = .ok (.aload_n 0, 1) := by decide +kernel
theorem dX1_upTo_22 : decode cX1_upTo 22 = .ok (.iload_n 3, 1) := by decide +kernel
theorem dX1_upTo_23 : decode cX1_upTo 23 = .ok (.iload 4, 2) := by decide +kernel
theorem dX1_upTo_25 : decode cX1_upTo 25 = .ok (.invokevirtual 23, 3) := by decide +kernel
theorem dX1_upTo_28 : decode cX1_upTo 28 = .ok (.ifCond .eq 6, 3) := by decide +kernel
theorem dX1_upTo_31 : decode cX1_upTo 31 = .ok (.iload 4, 2) := by decide +kernel
theorem dX1_upTo_33 : decode cX1_upTo 33 = .ok (.ireturn, 1) := by decide +kernel
theorem dX1_upTo_34 : decode cX1_upTo 34 = .ok (.iinc 4 (-1), 3) := by decide +kernel
theorem dX1_upTo_37 : decode cX1_upTo 37 = .ok (.goto (-27), 3) := by decide +kernel
theorem dX1_upTo_40 : decode cX1_upTo 40 = .ok (.iconst (-1), 1) := by decide +kernel
theorem dX1_upTo_41 : decode cX1_upTo 41 = .ok (.ireturn, 1) := by decide +kernel
theorem dX1_keyAt_0 : decode cX1_keyAt 0 = .ok (.aload_n 0, 1) := by decide +kernel
theorem dX1_keyAt_1 : decode cX1_keyAt 1 = .ok (.iload_n 1, 1) := by decide +kernel
theorem dX1_keyAt_2 : decode cX1_keyAt 2 = .ok (.invokevirtual 31, 3) := by decide +kernel
theorem dX1_keyAt_5 : decode cX1_keyAt 5 = .ok (.istore_n 3, 1) := by decide +kernel
theorem dX1_keyAt_6 : decode cX1_keyAt 6 = .ok (.iconst 0, 1) := by decide +kernel
theorem dX1_keyAt_7 : decode cX1_keyAt 7 = .ok (.istore 4, 2) := by decide +kernel
theorem dX1_keyAt_9 : decode cX1_keyAt 9 = .ok (.iload 4, 2) := by decide +kernel
theorem dX1_keyAt_11 : decode cX1_keyAt 11 = .ok (.bipush 32, 2) := by decide +kernel
theorem dX1_keyAt_13 : decode cX1_keyAt 13 = .ok (.if_icmp .ge 33, 3) := by decide +kernel
theorem dX1_keyAt_16 : decode cX1_keyAt 16 = .ok (.aload_n 0, 1) := by decide +kernel
theorem dX1_keyAt_17 : decode cX1_keyAt 17 = .ok (.iload_n 3, 1) := by decide +kernel
theorem dX1_keyAt_18 : decode cX1_keyAt 18 = .ok (.iload 4, 2) := by decide +kernel
theorem dX1_keyAt_20 : decode cX1_keyAt 20 = .ok (.invokevirtual 23, 3) := by decide +kernel
theorem dX1_keyAt_23 : decode cX1_keyAt 23 = .ok (.ifCond .eq 17, 3) := by decide +kernel
theorem dX1_keyAt_26 : decode cX1_keyAt 26 = .ok (.aload_n 0, 1) := by decide +kernel
theorem dX1_keyAt_27 : decode cX1_keyAt 27 = .ok (.iload_n 1, 1) := by decide +kernel
theorem dX1_keyAt_28 : decode cX1_keyAt 28 = .ok (.iload 4, 2) := by decide +kernel
theorem dX1_keyAt_30 : decode cX1_keyAt 30 = .ok (.invokevirtual 35, 3) := by decide +kernel
theorem dX1_keyAt_33 : decode cX1_keyAt 33 = .ok (.iload_n 2, 1) := by decide +kernel
theorem dX1_keyAt_34 : decode cX1_keyAt 34 = .ok (.if_icmp .ne 6, 3) := by decide +kernel
theorem dX1_keyAt_37 : decode cX1_keyAt 37 = .ok (.iload 4, 2) := by decide +kernel
theorem dX1_keyAt_39 : decode cX1_keyAt 39 = .ok (.ireturn, 1) := by decide +kernel
theorem dX1_keyAt_40 : decode cX1_keyAt 40 = .ok (.iinc 4 1, 3) := by decide +kernel
theorem dX1_keyAt_43 : decode cX1_keyAt 43 = .ok (.goto (-34), 3) := by decide +kernel
theorem dX1_keyAt_46 : decode cX1_keyAt 46 = .ok (.iconst (-1), 1) := by decide +kernel
theorem dX1_keyAt_47 : decode cX1_keyAt 47 = .ok (.ireturn, 1) := by decide +kernel
theorem dX1_sum_0 : decode cX1_sum 0 = .ok (.aload_n 0, 1) := by decide +kernel
theorem dX1_sum_1 : decode cX1_sum 1 = .ok (.iload_n 1, 1) := by decide +kernel
theorem dX1_sum_2 : decode cX1_sum 2 = .ok (.invokevirtual 31, 3) := by decide +kernel
theorem dX1_sum_5 : decode cX1_sum 5 = .ok (.istore 4, 2) := by decide +kernel
theorem dX1_sum_7 : decode cX1_sum 7 = .ok (.iconst 0, 1) := by decide +kernel
theorem dX1_sum_8 : decode cX1_sum 8 = .ok (.istore 5, 2) := by decide +kernel
theorem dX1_sum_10 : decode cX1_sum 10 = .ok (.iconst 0, 1) := by decide +kernel
theorem dX1_sum_11 : decode cX1_sum 11 = .ok (.istore 6, 2) := by decide +kernel
theorem dX1_sum_13 : decode cX1_sum 13 = .ok (.iload 6, 2) := by decide +kernel
theorem dX1_sum_15 : decode cX1_sum 15 = .ok (.bipush 32, 2) := by decide +kernel
theorem dX1_sum_17 : decode cX1_sum 17 = .ok (.if_icmp .ge 55, 3) := by decide +kernel
theorem dX1_sum_20 : decode cX1_sum 20 = .ok (.iload 6, 2) := by decide +kernel
theorem dX1_sum_22 : decode cX1_sum 22 = .ok (.iload_n 2, 1) := by decide +kernel
theorem dX1_sum_23 : decode cX1_sum 23 = .ok (.if_icmp .lt 39, 3) := by decide +kernel
theorem dX1_sum_26 : decode cX1_sum 26 = .ok (.iload 6, 2) := by decide +kernel
theorem dX1_sum_28 : decode cX1_sum 28 = .ok (.iload_n 3, 1) := by decide +kernel
theorem dX1_sum_29 : decode cX1_sum 29 = .ok (.if_icmp .gt 33, 3) := by decide +kernel
theorem dX1_sum_32 : decode cX1_sum 32 = .ok (.aload_n 0, 1) := by decide +kernel
theorem dX1_sum_33 : decode cX1_sum 33 = .ok (.iload 4, 2) := by decide +kernel
theorem dX1_sum_35 : decode cX1_sum 35 = .ok (.iload 6, 2) := by decide +kernel
theorem dX1_sum_37 : decode cX1_sum 37 = .ok (.invokevirtual 23, 3) := by decide +kernel
theorem dX1_sum_40 : decode cX1_sum 40 = .ok (.ifCond .eq 22, 3) := by decide +kernel
theorem dX1_sum_43 : decode cX1_sum 43 = .ok (.iload 5, 2) := by decide +kernel
theorem dX1_sum_45 : decode cX1_sum 45 = .ok (.aload_n 0, 1) := by decide +kernel
theorem dX1_sum_46 : decode cX1_sum 46 = .ok (.getfield 13, 3) := by decide +kernel
theorem dX1_sum_49 : decode cX1_sum 49 = .ok (.bipush 32, 2) := by decide +kernel
theorem dX1_sum_51 : decode cX1_sum 51 = .ok (.iload 4, 2) := by decide +kernel
theorem dX1_sum_53 : decode cX1_sum 53 = .ok (.imul, 1) := by decide +kernel
theorem dX1_sum_54 : decode cX1_sum 54 = .ok (.iload 6, 2) := by decide +kernel
theorem dX1_sum_56 : decode cX1_sum 56 = .ok (.iadd, 1) := by decide +kernel
theorem dX1_sum_57 : decode cX1_sum 57 = .ok (.iaload, 1) := by decide +kernel
theorem dX1_sum_58 : decode cX1_sum 58 = .ok (.iadd, 1) := by decide +kernel
theorem dX1_sum_59 : decode cX1_sum 59 = .ok (.goto 5, 3) := by decide +kernel
theorem dX1_sum_62 : decode cX1_sum 62 = .ok (.iload 5, 2) := by decide +kernel
theorem dX1_sum_64 : decode cX1_sum 64 = .ok (.istore 5, 2) := by decide +kernel
theorem dX1_sum_66 : decode cX1_sum 66 = .ok (.iinc 6 1, 3) := by decide +kernel
theorem dX1_sum_69 : decode cX1_sum 69 = .ok (.goto (-56), 3) := by decide +kernel
theorem dX1_sum_72 : decode cX1_sum 72 = .ok (.iload 5, 2) := by decide +kernel
theorem dX1_sum_74 : decode cX1_sum 74 = .ok (.ireturn, 1) := by decide +kernel
theorem dX1_difference_0 : decode cX1_difference 0 = .ok (.aload_n 0, 1) := by decide +kernel
theorem dX1_difference_1 : decode cX1_difference 1 = .ok (.iload_n 1, 1) := by decide +kernel
theorem dX1_difference_2 : decode cX1_difference 2 = .ok (.invokevirtual 31, 3) := by decide +kernel
theorem dX1_difference_5 : decode cX1_difference 5 = .ok (.istore_n 3, 1) := by decide +kernel
theorem dX1_difference_6 : decode cX1_difference 6 = .ok (.aload_n 0, 1) := by decide +kernel
theorem dX1_difference_7 : decode cX1_difference 7 = .ok (.iload_n 2, 1) := by decide +kernel
theorem dX1_difference_8 : decode cX1_difference 8 = .ok (.invokevirtual 31, 3) := by decide +kernel
theorem dX1_difference_11 : decode cX1_difference 11 = .ok (.istore 4, 2) := by decide +kernel
theorem dX1_difference_13 : decode cX1_difference 13 = .ok (.iconst 0, 1) := by decide +kernel
theorem dX1_difference_14 : decode cX1_difference 14 = .ok (.istore 5, 2) := by decide +kernel
theorem dX1_difference_16 : decode cX1_difference 16 = .ok (.iconst 0, 1) := by decide +kernel
theorem dX1_difference_17 : decode cX1_difference 17 = .ok (.istore 6, 2) := by decide +kernel
theorem dX1_difference_19 : decode cX1_difference 19 = .ok (.iload 6, 2) := by decide +kernel
theorem dX1_difference_21 : decode cX1_difference 21 = .ok (.bipush 32, 2) := by decide +kernel
theorem dX1_difference_23 : decode cX1_difference 23 = .ok (.if_icmp .ge 100, 3) := by decide +kernel
theorem dX1_difference_26 : decode cX1_difference 26 = .ok (.iload_n 3, 1) := by decide +kernel
theorem dX1_difference_27 : decode cX1_difference 27 = .ok (.ifCond .lt 96, 3) := by decide +kernel
theorem dX1_difference_30 : decode cX1_difference 30 = .ok (.iload 4, 2) := by decide +kernel
theorem dX1_difference_32 : decode cX1_difference 32 = .ok (.ifCond .lt 91, 3) := by decide +kernel
theorem dX1_difference_35 : decode cX1_difference 35 = .ok (.aload_n 0, 1) := by decide +kernel
theorem dX1_difference_36 : decode cX1_difference 36 = .ok (.iload_n 3, 1) := by decide +kernel
theorem dX1_difference_37 : decode cX1_difference 37 = .ok (.iload 6, 2) := by decide +kernel
theorem dX1_difference_39 : decode cX1_difference 39 = .ok (.invokevirtual 23, 3) := by decide +kernel
theorem dX1_difference_42 : decode cX1_difference 42 = .ok (.aload_n 0, 1) := by decide +kernel
theorem dX1_difference_43 : decode cX1_difference 43 = .ok (.iload 4, 2) := by decide +kernel
theorem dX1_difference_45 : decode cX1_difference 45 = .ok (.iload 6, 2) := by decide +kernel
theorem dX1_difference_47 : decode cX1_difference 47 = .ok (.invokevirtual 23, 3) := by decide +kernel
theorem dX1_difference_50 : decode cX1_difference 50 = .ok (.if_icmp .ne 45, 3) := by decide +kernel
theorem dX1_difference_53 : decode cX1_difference 53 = .ok (.aload_n 0, 1) := by decide +kernel
theorem dX1_difference_54 : decode cX1_difference 54 = .ok (.iload_n 3, 1) := by decide +kernel
theorem dX1_difference_55 : decode cX1_difference 55 = .ok (.iload 6, 2) := by decide +kernel
theorem dX1_difference_57 : decode cX1_difference 57 = .ok (.invokevirtual 23, 3) := by decide +kernel
theorem dX1_difference_60 : decode cX1_difference 60 = .ok (.ifCond .eq 31, 3) := by decide +kernel
theorem dX1_difference_63 : decode cX1_difference 63 = .ok (.aload_n 0, 1) := by decide +kernel
theorem dX1_difference_64 : decode cX1_difference 64 = .ok (.getfield 13, 3) := by decide +kernel
theorem dX1_difference_67 : decode cX1_difference 67 = .ok (.bipush 32, 2) := by decide +kernel
theorem dX1_difference_69 : decode cX1_difference 69 = .ok (.iload_n 3, 1) := by decide +kernel
theorem dX1_difference_70 : decode cX1_difference 70 = .ok (.imul, 1) := by decide +kernel
theorem dX1_difference_71 : decode cX1_difference 71 = .ok (.iload 6, 2) := by decide +kernel
theorem dX1_difference_73 : decode cX1_difference 73 = .ok (.iadd, 1) := by decide +kernel
theorem dX1_difference_74 : decode cX1_difference 74 = .ok (.iaload, 1) := by decide +kernel
theorem dX1_difference_75 : decode cX1_difference 75 = .ok (.aload_n 0, 1) := by decide +kernel
theorem dX1_difference_76 : decode cX1_difference 76 = .ok (.getfield 13, 3) := by decide +kernel
theorem dX1_difference_79 : decode cX1_difference 79 = .ok (.bipush 32, 2) := by decide +kernel
theorem dX1_difference_81 : decode cX1_difference 81 = .ok (.iload 4, 2) := by decide +kernel
theorem dX1_difference_83 : decode cX1_difference 83 = .ok (.imul, 1) := by decide +kernel
theorem dX1_difference_84 : decode cX1_difference 84 = .ok (.iload 6, 2) := by decide +kernel
theorem dX1_difference_86 : decode cX1_difference 86 = .ok (.iadd, 1) := by decide +kernel
theorem dX1_difference_87 : decode cX1_difference 87 = .ok (.iaload, 1) := by decide +kernel
theorem dX1_difference_88 : decode cX1_difference 88 = .ok (.if_icmp .ne 7, 3) := by decide +kernel
theorem dX1_difference_91 : decode cX1_difference 91 = .ok (.iconst 1, 1) := by decide +kernel
theorem dX1_difference_92 : decode cX1_difference 92 = .ok (.goto 4, 3) := by decide +kernel
theorem dX1_difference_95 : decode cX1_difference 95 = .ok (.iconst 0, 1) := by decide +kernel
theorem dX1_difference_96 : decode cX1_difference 96 = .ok (.istore 7, 2) := by decide +kernel
theorem dX1_difference_98 : decode cX1_difference 98 = .ok (.iload 7, 2) := by decide +kernel
theorem dX1_difference_100 : decode cX1_difference 100 = .ok (.ifCond .eq 8, 3) := by decide +kernel
theorem dX1_difference_103 : decode cX1_difference 103 = .ok (.iload 5, 2) := by decide +kernel
theorem dX1_difference_105 : decode cX1_difference 105 = .ok (.goto 10, 3) := by decide +kernel
theorem dX1_difference_108 : decode cX1_difference 108 = .ok (.iload 5, 2) := by decide +kernel
theorem dX1_difference_110 : decode cX1_difference 110 = .ok (.iconst 1, 1) := by decide +kernel
theorem dX1_difference_111 : decode cX1_difference 111 = .ok (.iload 6, 2) := by decide +kernel
theorem dX1_difference_113 : decode cX1_difference 113 = .ok (.ishl, 1) := by decide +kernel
theorem dX1_difference_114 : decode cX1_difference 114 = .ok (.ior, 1) := by decide +kernel
theorem dX1_difference_115 : decode cX1_difference 115 = .ok (.istore 5, 2) := by decide +kernel
theorem dX1_difference_117 : decode cX1_difference 117 = .ok (.iinc 6 1, 3) := by decide +kernel
theorem dX1_difference_120 : decode cX1_difference 120 = .ok (.goto (-101), 3) := by decide +kernel
theorem dX1_difference_123 : decode cX1_difference 123 = .ok (.iload 5, 2) := by decide +kernel
theorem dX1_difference_125 : decode cX1_difference 125 = .ok (.ireturn, 1) := by decide +kernel
theorem dX1_keys_0 : decode cX1_keys 0 = .ok (.aload_n 0, 1) := by decide +kernel
theorem dX1_keys_1 : decode cX1_keys 1 = .ok (.iload_n 1, 1) := by decide +kernel
theorem dX1_keys_2 : decode cX1_keys 2 = .ok (.invokevirtual 31, 3) := by decide +kernel
theorem dX1_keys_5 : decode cX1_keys 5 = .ok (.istore_n 2, 1) := by decide +kernel
theorem dX1_keys_6 : decode cX1_keys 6 = .ok (.iload_n 2, 1) := by decide +kernel
theorem dX1_keys_7 : decode cX1_keys 7 = .ok (.ifCond .ge 7, 3) := by decide +kernel
theorem dX1_keys_10 : decode cX1_keys 10 = .ok (.iconst 0, 1) := by decide +kernel
theorem dX1_keys_11 : decode cX1_keys 11 = .ok (.goto 9, 3) := by decide +kernel
theorem dX1_keys_14 : decode cX1_keys 14 = .ok (.aload_n 0, 1) := by decide +kernel
theorem dX1_keys_15 : decode cX1_keys 15 = .ok (.getfield 7, 3) := by decide +kernel
theorem dX1_keys_18 : decode cX1_keys 18 = .ok (.iload_n 2, 1) := by decide +kernel
theorem dX1_keys_19 : decode cX1_keys 19 = .ok (.iaload, 1) := by decide +kernel
theorem dX1_keys_20 : decode cX1_keys 20 = .ok (.ireturn, 1) := by decide +kernel
end
section
set_option maxRecDepth 100000
theorem dL_law_0 : decode cL_law 0 = .ok (.new 7, 3) := by decide +kernel
theorem dL_law_3 : decode cL_law 3 = .ok (.dup, 1) := by decide +kernel
theorem dL_law_4 : decode cL_law 4 = .ok (.invokespecial 9, 3) := by decide +kernel
theorem dL_law_7 : decode cL_law 7 = .ok (.astore_n 1, 1) := by decide +kernel
theorem dL_law_8 : decode cL_law 8 = .ok (.new 10, 3) := by decide +kernel
theorem dL_law_11 : decode cL_law 11 = .ok (.dup, 1) := by decide +kernel
theorem dL_law_12 : decode cL_law 12 = .ok (.invokespecial 12, 3) := by decide +kernel
theorem dL_law_15 : decode cL_law 15 = .ok (.astore_n 2, 1) := by decide +kernel
theorem dL_law_16 : decode cL_law 16 = .ok (.iconst 0, 1) := by decide +kernel
theorem dL_law_17 : decode cL_law 17 = .ok (.istore_n 3, 1) := by decide +kernel
theorem dL_law_18 : decode cL_law 18 = .ok (.iload_n 3, 1) := by decide +kernel
theorem dL_law_19 : decode cL_law 19 = .ok (.aload_n 0, 1) := by decide +kernel
theorem dL_law_20 : decode cL_law 20 = .ok (.arraylength, 1) := by decide +kernel
theorem dL_law_21 : decode cL_law 21 = .ok (.iconst 4, 1) := by decide +kernel
theorem dL_law_22 : decode cL_law 22 = .ok (.isub, 1) := by decide +kernel
theorem dL_law_23 : decode cL_law 23 = .ok (.if_icmp .gt 516, 3) := by decide +kernel
theorem dL_law_26 : decode cL_law 26 = .ok (.aload_n 0, 1) := by decide +kernel
theorem dL_law_27 : decode cL_law 27 = .ok (.iload_n 3, 1) := by decide +kernel
theorem dL_law_28 : decode cL_law 28 = .ok (.iaload, 1) := by decide +kernel
theorem dL_law_29 : decode cL_law 29 = .ok (.bipush 15, 2) := by decide +kernel
theorem dL_law_31 : decode cL_law 31 = .ok (.iand, 1) := by decide +kernel
theorem dL_law_32 : decode cL_law 32 = .ok (.tableswitch 501 0 14 #[76, 109, 132, 145, 168, 181, 214, 247, 270, 303, 336, 369, 402, 445, 478], 76) := by decide +kernel
theorem dL_law_108 : decode cL_law 108 = .ok (.aload_n 1, 1) := by decide +kernel
theorem dL_law_109 : decode cL_law 109 = .ok (.aload_n 0, 1) := by decide +kernel
theorem dL_law_110 : decode cL_law 110 = .ok (.iload_n 3, 1) := by decide +kernel
theorem dL_law_111 : decode cL_law 111 = .ok (.iconst 1, 1) := by decide +kernel
theorem dL_law_112 : decode cL_law 112 = .ok (.iadd, 1) := by decide +kernel
theorem dL_law_113 : decode cL_law 113 = .ok (.iaload, 1) := by decide +kernel
theorem dL_law_114 : decode cL_law 114 = .ok (.aload_n 0, 1) := by decide +kernel
theorem dL_law_115 : decode cL_law 115 = .ok (.iload_n 3, 1) := by decide +kernel
theorem dL_law_116 : decode cL_law 116 = .ok (.iconst 2, 1) := by decide +kernel
theorem dL_law_117 : decode cL_law 117 = .ok (.iadd, 1) := by decide +kernel
theorem dL_law_118 : decode cL_law 118 = .ok (.iaload, 1) := by decide +kernel
theorem dL_law_119 : decode cL_law 119 = .ok (.invokevirtual 13, 3) := by decide +kernel
theorem dL_law_122 : decode cL_law 122 = .ok (.aload_n 2, 1) := by decide +kernel
theorem dL_law_123 : decode cL_law 123 = .ok (.aload_n 0, 1) := by decide +kernel
theorem dL_law_124 : decode cL_law 124 = .ok (.iload_n 3, 1) := by decide +kernel
theorem dL_law_125 : decode cL_law 125 = .ok (.iconst 1, 1) := by decide +kernel
theorem dL_law_126 : decode cL_law 126 = .ok (.iadd, 1) := by decide +kernel
theorem dL_law_127 : decode cL_law 127 = .ok (.iaload, 1) := by decide +kernel
theorem dL_law_128 : decode cL_law 128 = .ok (.aload_n 0, 1) := by decide +kernel
theorem dL_law_129 : decode cL_law 129 = .ok (.iload_n 3, 1) := by decide +kernel
theorem dL_law_130 : decode cL_law 130 = .ok (.iconst 2, 1) := by decide +kernel
theorem dL_law_131 : decode cL_law 131 = .ok (.iadd, 1) := by decide +kernel
theorem dL_law_132 : decode cL_law 132 = .ok (.iaload, 1) := by decide +kernel
theorem dL_law_133 : decode cL_law 133 = .ok (.invokevirtual 17, 3) := by decide +kernel
theorem dL_law_136 : decode cL_law 136 = .ok (.if_icmp .eq 397, 3) := by decide +kernel
theorem dL_law_139 : decode cL_law 139 = .ok (.iconst 0, 1) := by decide +kernel
theorem dL_law_140 : decode cL_law 140 = .ok (.ireturn, 1) := by decide +kernel
theorem dL_law_141 : decode cL_law 141 = .ok (.aload_n 1, 1) := by decide +kernel
theorem dL_law_142 : decode cL_law 142 = .ok (.aload_n 0, 1) := by decide +kernel
theorem dL_law_143 : decode cL_law 143 = .ok (.iload_n 3, 1) := by decide +kernel
theorem dL_law_144 : decode cL_law 144 = .ok (.iconst 1, 1) := by decide +kernel
theorem dL_law_145 : decode cL_law 145 = .ok (.iadd, 1) := by decide +kernel
theorem dL_law_146 : decode cL_law 146 = .ok (.iaload, 1) := by decide +kernel
theorem dL_law_147 : decode cL_law 147 = .ok (.invokevirtual 18, 3) := by decide +kernel
theorem dL_law_150 : decode cL_law 150 = .ok (.aload_n 2, 1) := by decide +kernel
theorem dL_law_151 : decode cL_law 151 = .ok (.aload_n 0, 1) := by decide +kernel
theorem dL_law_152 : decode cL_law 152 = .ok (.iload_n 3, 1) := by decide +kernel
theorem dL_law_153 : decode cL_law 153 = .ok (.iconst 1, 1) := by decide +kernel
theorem dL_law_154 : decode cL_law 154 = .ok (.iadd, 1) := by decide +kernel
theorem dL_law_155 : decode cL_law 155 = .ok (.iaload, 1) := by decide +kernel
theorem dL_law_156 : decode cL_law 156 = .ok (.invokevirtual 22, 3) := by decide +kernel
theorem dL_law_159 : decode cL_law 159 = .ok (.if_icmp .eq 374, 3) := by decide +kernel
theorem dL_law_162 : decode cL_law 162 = .ok (.iconst 0, 1) := by decide +kernel
theorem dL_law_163 : decode cL_law 163 = .ok (.ireturn, 1) := by decide +kernel
theorem dL_law_164 : decode cL_law 164 = .ok (.aload_n 1, 1) := by decide +kernel
theorem dL_law_165 : decode cL_law 165 = .ok (.invokevirtual 23, 3) := by decide +kernel
theorem dL_law_168 : decode cL_law 168 = .ok (.aload_n 2, 1) := by decide +kernel
theorem dL_law_169 : decode cL_law 169 = .ok (.invokevirtual 27, 3) := by decide +kernel
theorem dL_law_172 : decode cL_law 172 = .ok (.if_icmp .eq 361, 3) := by decide +kernel
theorem dL_law_175 : decode cL_law 175 = .ok (.iconst 0, 1) := by decide +kernel
theorem dL_law_176 : decode cL_law 176 = .ok (.ireturn, 1) := by decide +kernel
theorem dL_law_177 : decode cL_law 177 = .ok (.aload_n 1, 1) := by decide +kernel
theorem dL_law_178 : decode cL_law 178 = .ok (.aload_n 0, 1) := by decide +kernel
theorem dL_law_179 : decode cL_law 179 = .ok (.iload_n 3, 1) := by decide +kernel
theorem dL_law_180 : decode cL_law 180 = .ok (.iconst 1, 1) := by decide +kernel
theorem dL_law_181 : decode cL_law 181 = .ok (.iadd, 1) := by decide +kernel
theorem dL_law_182 : decode cL_law 182 = .ok (.iaload, 1) := by decide +kernel
theorem dL_law_183 : decode cL_law 183 = .ok (.invokevirtual 28, 3) := by decide +kernel
theorem dL_law_186 : decode cL_law 186 = .ok (.aload_n 2, 1) := by decide +kernel
theorem dL_law_187 : decode cL_law 187 = .ok (.aload_n 0, 1) := by decide +kernel
theorem dL_law_188 : decode cL_law 188 = .ok (.iload_n 3, 1) := by decide +kernel
theorem dL_law_189 : decode cL_law 189 = .ok (.iconst 1, 1) := by decide +kernel
theorem dL_law_190 : decode cL_law 190 = .ok (.iadd, 1) := by decide +kernel
theorem dL_law_191 : decode cL_law 191 = .ok (.iaload, 1) := by decide +kernel
theorem dL_law_192 : decode cL_law 192 = .ok (.invokevirtual 31, 3) := by decide +kernel
theorem dL_law_195 : decode cL_law 195 = .ok (.if_icmp .eq 338, 3) := by decide +kernel
theorem dL_law_198 : decode cL_law 198 = .ok (.iconst 0, 1) := by decide +kernel
theorem dL_law_199 : decode cL_law 199 = .ok (.ireturn, 1) := by decide +kernel
theorem dL_law_200 : decode cL_law 200 = .ok (.aload_n 1, 1) := by decide +kernel
theorem dL_law_201 : decode cL_law 201 = .ok (.invokevirtual 32, 3) := by decide +kernel
theorem dL_law_204 : decode cL_law 204 = .ok (.aload_n 2, 1) := by decide +kernel
theorem dL_law_205 : decode cL_law 205 = .ok (.invokevirtual 35, 3) := by decide +kernel
theorem dL_law_208 : decode cL_law 208 = .ok (.if_icmp .eq 325, 3) := by decide +kernel
theorem dL_law_211 : decode cL_law 211 = .ok (.iconst 0, 1) := by decide +kernel
theorem dL_law_212 : decode cL_law 212 = .ok (.ireturn, 1) := by decide +kernel
theorem dL_law_213 : decode cL_law 213 = .ok (.aload_n 1, 1) := by decide +kernel
theorem dL_law_214 : decode cL_law 214 = .ok (.aload_n 0, 1) := by decide +kernel
theorem dL_law_215 : decode cL_law 215 = .ok (.iload_n 3, 1) := by decide +kernel
theorem dL_law_216 : decode cL_law 216 = .ok (.iconst 1, 1) := by decide +kernel
theorem dL_law_217 : decode cL_law 217 = .ok (.iadd, 1) := by decide +kernel
theorem dL_law_218 : decode cL_law 218 = .ok (.iaload, 1) := by decide +kernel
theorem dL_law_219 : decode cL_law 219 = .ok (.aload_n 0, 1) := by decide +kernel
theorem dL_law_220 : decode cL_law 220 = .ok (.iload_n 3, 1) := by decide +kernel
theorem dL_law_221 : decode cL_law 221 = .ok (.iconst 2, 1) := by decide +kernel
theorem dL_law_222 : decode cL_law 222 = .ok (.iadd, 1) := by decide +kernel
theorem dL_law_223 : decode cL_law 223 = .ok (.iaload, 1) := by decide +kernel
theorem dL_law_224 : decode cL_law 224 = .ok (.invokevirtual 36, 3) := by decide +kernel
theorem dL_law_227 : decode cL_law 227 = .ok (.aload_n 2, 1) := by decide +kernel
theorem dL_law_228 : decode cL_law 228 = .ok (.aload_n 0, 1) := by decide +kernel
theorem dL_law_229 : decode cL_law 229 = .ok (.iload_n 3, 1) := by decide +kernel
theorem dL_law_230 : decode cL_law 230 = .ok (.iconst 1, 1) := by decide +kernel
theorem dL_law_231 : decode cL_law 231 = .ok (.iadd, 1) := by decide +kernel
theorem dL_law_232 : decode cL_law 232 = .ok (.iaload, 1) := by decide +kernel
theorem dL_law_233 : decode cL_law 233 = .ok (.aload_n 0, 1) := by decide +kernel
theorem dL_law_234 : decode cL_law 234 = .ok (.iload_n 3, 1) := by decide +kernel
theorem dL_law_235 : decode cL_law 235 = .ok (.iconst 2, 1) := by decide +kernel
theorem dL_law_236 : decode cL_law 236 = .ok (.iadd, 1) := by decide +kernel
theorem dL_law_237 : decode cL_law 237 = .ok (.iaload, 1) := by decide +kernel
theorem dL_law_238 : decode cL_law 238 = .ok (.invokevirtual 39, 3) := by decide +kernel
theorem dL_law_241 : decode cL_law 241 = .ok (.if_icmp .eq 292, 3) := by decide +kernel
theorem dL_law_244 : decode cL_law 244 = .ok (.iconst 0, 1) := by decide +kernel
theorem dL_law_245 : decode cL_law 245 = .ok (.ireturn, 1) := by decide +kernel
theorem dL_law_246 : decode cL_law 246 = .ok (.aload_n 1, 1) := by decide +kernel
theorem dL_law_247 : decode cL_law 247 = .ok (.aload_n 0, 1) := by decide +kernel
theorem dL_law_248 : decode cL_law 248 = .ok (.iload_n 3, 1) := by decide +kernel
theorem dL_law_249 : decode cL_law 249 = .ok (.iconst 1, 1) := by decide +kernel
theorem dL_law_250 : decode cL_law 250 = .ok (.iadd, 1) := by decide +kernel
theorem dL_law_251 : decode cL_law 251 = .ok (.iaload, 1) := by decide +kernel
end
section
set_option maxRecDepth 100000
theorem dL_law_252 : decode cL_law 252 = .ok (.aload_n 0, 1) := by decide +kernel
theorem dL_law_253 : decode cL_law 253 = .ok (.iload_n 3, 1) := by decide +kernel
theorem dL_law_254 : decode cL_law 254 = .ok (.iconst 2, 1) := by decide +kernel
theorem dL_law_255 : decode cL_law 255 = .ok (.iadd, 1) := by decide +kernel
theorem dL_law_256 : decode cL_law 256 = .ok (.iaload, 1) := by decide +kernel
theorem dL_law_257 : decode cL_law 257 = .ok (.invokevirtual 40, 3) := by decide +kernel
theorem dL_law_260 : decode cL_law 260 = .ok (.aload_n 2, 1) := by decide +kernel
theorem dL_law_261 : decode cL_law 261 = .ok (.aload_n 0, 1) := by decide +kernel
theorem dL_law_262 : decode cL_law 262 = .ok (.iload_n 3, 1) := by decide +kernel
theorem dL_law_263 : decode cL_law 263 = .ok (.iconst 1, 1) := by decide +kernel
theorem dL_law_264 : decode cL_law 264 = .ok (.iadd, 1) := by decide +kernel
theorem dL_law_265 : decode cL_law 265 = .ok (.iaload, 1) := by decide +kernel
theorem dL_law_266 : decode cL_law 266 = .ok (.aload_n 0, 1) := by decide +kernel
theorem dL_law_267 : decode cL_law 267 = .ok (.iload_n 3, 1) := by decide +kernel
theorem dL_law_268 : decode cL_law 268 = .ok (.iconst 2, 1) := by decide +kernel
theorem dL_law_269 : decode cL_law 269 = .ok (.iadd, 1) := by decide +kernel
theorem dL_law_270 : decode cL_law 270 = .ok (.iaload, 1) := by decide +kernel
theorem dL_law_271 : decode cL_law 271 = .ok (.invokevirtual 44, 3) := by decide +kernel
theorem dL_law_274 : decode cL_law 274 = .ok (.if_icmp .eq 259, 3) := by decide +kernel
theorem dL_law_277 : decode cL_law 277 = .ok (.iconst 0, 1) := by decide +kernel
theorem dL_law_278 : decode cL_law 278 = .ok (.ireturn, 1) := by decide +kernel
theorem dL_law_279 : decode cL_law 279 = .ok (.aload_n 1, 1) := by decide +kernel
theorem dL_law_280 : decode cL_law 280 = .ok (.aload_n 0, 1) := by decide +kernel
theorem dL_law_281 : decode cL_law 281 = .ok (.iload_n 3, 1) := by decide +kernel
theorem dL_law_282 : decode cL_law 282 = .ok (.iconst 1, 1) := by decide +kernel
theorem dL_law_283 : decode cL_law 283 = .ok (.iadd, 1) := by decide +kernel
theorem dL_law_284 : decode cL_law 284 = .ok (.iaload, 1) := by decide +kernel
theorem dL_law_285 : decode cL_law 285 = .ok (.invokevirtual 45, 3) := by decide +kernel
theorem dL_law_288 : decode cL_law 288 = .ok (.aload_n 2, 1) := by decide +kernel
theorem dL_law_289 : decode cL_law 289 = .ok (.aload_n 0, 1) := by decide +kernel
theorem dL_law_290 : decode cL_law 290 = .ok (.iload_n 3, 1) := by decide +kernel
theorem dL_law_291 : decode cL_law 291 = .ok (.iconst 1, 1) := by decide +kernel
theorem dL_law_292 : decode cL_law 292 = .ok (.iadd, 1) := by decide +kernel
theorem dL_law_293 : decode cL_law 293 = .ok (.iaload, 1) := by decide +kernel
theorem dL_law_294 : decode cL_law 294 = .ok (.invokevirtual 49, 3) := by decide +kernel
theorem dL_law_297 : decode cL_law 297 = .ok (.if_icmp .eq 236, 3) := by decide +kernel
theorem dL_law_300 : decode cL_law 300 = .ok (.iconst 0, 1) := by decide +kernel
theorem dL_law_301 : decode cL_law 301 = .ok (.ireturn, 1) := by decide +kernel
theorem dL_law_302 : decode cL_law 302 = .ok (.aload_n 1, 1) := by decide +kernel
theorem dL_law_303 : decode cL_law 303 = .ok (.aload_n 0, 1) := by decide +kernel
theorem dL_law_304 : decode cL_law 304 = .ok (.iload_n 3, 1) := by decide +kernel
theorem dL_law_305 : decode cL_law 305 = .ok (.iconst 1, 1) := by decide +kernel
theorem dL_law_306 : decode cL_law 306 = .ok (.iadd, 1) := by decide +kernel
theorem dL_law_307 : decode cL_law 307 = .ok (.iaload, 1) := by decide +kernel
theorem dL_law_308 : decode cL_law 308 = .ok (.aload_n 0, 1) := by decide +kernel
theorem dL_law_309 : decode cL_law 309 = .ok (.iload_n 3, 1) := by decide +kernel
theorem dL_law_310 : decode cL_law 310 = .ok (.iconst 2, 1) := by decide +kernel
theorem dL_law_311 : decode cL_law 311 = .ok (.iadd, 1) := by decide +kernel
theorem dL_law_312 : decode cL_law 312 = .ok (.iaload, 1) := by decide +kernel
theorem dL_law_313 : decode cL_law 313 = .ok (.invokevirtual 50, 3) := by decide +kernel
theorem dL_law_316 : decode cL_law 316 = .ok (.aload_n 2, 1) := by decide +kernel
theorem dL_law_317 : decode cL_law 317 = .ok (.aload_n 0, 1) := by decide +kernel
theorem dL_law_318 : decode cL_law 318 = .ok (.iload_n 3, 1) := by decide +kernel
theorem dL_law_319 : decode cL_law 319 = .ok (.iconst 1, 1) := by decide +kernel
theorem dL_law_320 : decode cL_law 320 = .ok (.iadd, 1) := by decide +kernel
theorem dL_law_321 : decode cL_law 321 = .ok (.iaload, 1) := by decide +kernel
theorem dL_law_322 : decode cL_law 322 = .ok (.aload_n 0, 1) := by decide +kernel
theorem dL_law_323 : decode cL_law 323 = .ok (.iload_n 3, 1) := by decide +kernel
theorem dL_law_324 : decode cL_law 324 = .ok (.iconst 2, 1) := by decide +kernel
theorem dL_law_325 : decode cL_law 325 = .ok (.iadd, 1) := by decide +kernel
theorem dL_law_326 : decode cL_law 326 = .ok (.iaload, 1) := by decide +kernel
theorem dL_law_327 : decode cL_law 327 = .ok (.invokevirtual 53, 3) := by decide +kernel
theorem dL_law_330 : decode cL_law 330 = .ok (.if_icmp .eq 203, 3) := by decide +kernel
theorem dL_law_333 : decode cL_law 333 = .ok (.iconst 0, 1) := by decide +kernel
theorem dL_law_334 : decode cL_law 334 = .ok (.ireturn, 1) := by decide +kernel
theorem dL_law_335 : decode cL_law 335 = .ok (.aload_n 1, 1) := by decide +kernel
theorem dL_law_336 : decode cL_law 336 = .ok (.aload_n 0, 1) := by decide +kernel
theorem dL_law_337 : decode cL_law 337 = .ok (.iload_n 3, 1) := by decide +kernel
theorem dL_law_338 : decode cL_law 338 = .ok (.iconst 1, 1) := by decide +kernel
theorem dL_law_339 : decode cL_law 339 = .ok (.iadd, 1) := by decide +kernel
theorem dL_law_340 : decode cL_law 340 = .ok (.iaload, 1) := by decide +kernel
theorem dL_law_341 : decode cL_law 341 = .ok (.aload_n 0, 1) := by decide +kernel
theorem dL_law_342 : decode cL_law 342 = .ok (.iload_n 3, 1) := by decide +kernel
theorem dL_law_343 : decode cL_law 343 = .ok (.iconst 2, 1) := by decide +kernel
theorem dL_law_344 : decode cL_law 344 = .ok (.iadd, 1) := by decide +kernel
theorem dL_law_345 : decode cL_law 345 = .ok (.iaload, 1) := by decide +kernel
theorem dL_law_346 : decode cL_law 346 = .ok (.invokevirtual 54, 3) := by decide +kernel
theorem dL_law_349 : decode cL_law 349 = .ok (.aload_n 2, 1) := by decide +kernel
theorem dL_law_350 : decode cL_law 350 = .ok (.aload_n 0, 1) := by decide +kernel
theorem dL_law_351 : decode cL_law 351 = .ok (.iload_n 3, 1) := by decide +kernel
theorem dL_law_352 : decode cL_law 352 = .ok (.iconst 1, 1) := by decide +kernel
theorem dL_law_353 : decode cL_law 353 = .ok (.iadd, 1) := by decide +kernel
theorem dL_law_354 : decode cL_law 354 = .ok (.iaload, 1) := by decide +kernel
theorem dL_law_355 : decode cL_law 355 = .ok (.aload_n 0, 1) := by decide +kernel
theorem dL_law_356 : decode cL_law 356 = .ok (.iload_n 3, 1) := by decide +kernel
theorem dL_law_357 : decode cL_law 357 = .ok (.iconst 2, 1) := by decide +kernel
theorem dL_law_358 : decode cL_law 358 = .ok (.iadd, 1) := by decide +kernel
theorem dL_law_359 : decode cL_law 359 = .ok (.iaload, 1) := by decide +kernel
theorem dL_law_360 : decode cL_law 360 = .ok (.invokevirtual 57, 3) := by decide +kernel
theorem dL_law_363 : decode cL_law 363 = .ok (.if_icmp .eq 170, 3) := by decide +kernel
theorem dL_law_366 : decode cL_law 366 = .ok (.iconst 0, 1) := by decide +kernel
theorem dL_law_367 : decode cL_law 367 = .ok (.ireturn, 1) := by decide +kernel
theorem dL_law_368 : decode cL_law 368 = .ok (.aload_n 1, 1) := by decide +kernel
theorem dL_law_369 : decode cL_law 369 = .ok (.aload_n 0, 1) := by decide +kernel
theorem dL_law_370 : decode cL_law 370 = .ok (.iload_n 3, 1) := by decide +kernel
theorem dL_law_371 : decode cL_law 371 = .ok (.iconst 1, 1) := by decide +kernel
theorem dL_law_372 : decode cL_law 372 = .ok (.iadd, 1) := by decide +kernel
theorem dL_law_373 : decode cL_law 373 = .ok (.iaload, 1) := by decide +kernel
theorem dL_law_374 : decode cL_law 374 = .ok (.aload_n 0, 1) := by decide +kernel
theorem dL_law_375 : decode cL_law 375 = .ok (.iload_n 3, 1) := by decide +kernel
theorem dL_law_376 : decode cL_law 376 = .ok (.iconst 2, 1) := by decide +kernel
theorem dL_law_377 : decode cL_law 377 = .ok (.iadd, 1) := by decide +kernel
theorem dL_law_378 : decode cL_law 378 = .ok (.iaload, 1) := by decide +kernel
theorem dL_law_379 : decode cL_law 379 = .ok (.invokevirtual 58, 3) := by decide +kernel
theorem dL_law_382 : decode cL_law 382 = .ok (.aload_n 2, 1) := by decide +kernel
theorem dL_law_383 : decode cL_law 383 = .ok (.aload_n 0, 1) := by decide +kernel
theorem dL_law_384 : decode cL_law 384 = .ok (.iload_n 3, 1) := by decide +kernel
theorem dL_law_385 : decode cL_law 385 = .ok (.iconst 1, 1) := by decide +kernel
theorem dL_law_386 : decode cL_law 386 = .ok (.iadd, 1) := by decide +kernel
theorem dL_law_387 : decode cL_law 387 = .ok (.iaload, 1) := by decide +kernel
theorem dL_law_388 : decode cL_law 388 = .ok (.aload_n 0, 1) := by decide +kernel
theorem dL_law_389 : decode cL_law 389 = .ok (.iload_n 3, 1) := by decide +kernel
theorem dL_law_390 : decode cL_law 390 = .ok (.iconst 2, 1) := by decide +kernel
theorem dL_law_391 : decode cL_law 391 = .ok (.iadd, 1) := by decide +kernel
theorem dL_law_392 : decode cL_law 392 = .ok (.iaload, 1) := by decide +kernel
theorem dL_law_393 : decode cL_law 393 = .ok (.invokevirtual 61, 3) := by decide +kernel
theorem dL_law_396 : decode cL_law 396 = .ok (.if_icmp .eq 137, 3) := by decide +kernel
theorem dL_law_399 : decode cL_law 399 = .ok (.iconst 0, 1) := by decide +kernel
theorem dL_law_400 : decode cL_law 400 = .ok (.ireturn, 1) := by decide +kernel
theorem dL_law_401 : decode cL_law 401 = .ok (.aload_n 1, 1) := by decide +kernel
theorem dL_law_402 : decode cL_law 402 = .ok (.aload_n 0, 1) := by decide +kernel
theorem dL_law_403 : decode cL_law 403 = .ok (.iload_n 3, 1) := by decide +kernel
theorem dL_law_404 : decode cL_law 404 = .ok (.iconst 1, 1) := by decide +kernel
theorem dL_law_405 : decode cL_law 405 = .ok (.iadd, 1) := by decide +kernel
theorem dL_law_406 : decode cL_law 406 = .ok (.iaload, 1) := by decide +kernel
theorem dL_law_407 : decode cL_law 407 = .ok (.aload_n 0, 1) := by decide +kernel
theorem dL_law_408 : decode cL_law 408 = .ok (.iload_n 3, 1) := by decide +kernel
theorem dL_law_409 : decode cL_law 409 = .ok (.iconst 2, 1) := by decide +kernel
theorem dL_law_410 : decode cL_law 410 = .ok (.iadd, 1) := by decide +kernel
theorem dL_law_411 : decode cL_law 411 = .ok (.iaload, 1) := by decide +kernel
end
section
set_option maxRecDepth 100000
theorem dL_law_412 : decode cL_law 412 = .ok (.invokevirtual 62, 3) := by decide +kernel
theorem dL_law_415 : decode cL_law 415 = .ok (.aload_n 2, 1) := by decide +kernel
theorem dL_law_416 : decode cL_law 416 = .ok (.aload_n 0, 1) := by decide +kernel
theorem dL_law_417 : decode cL_law 417 = .ok (.iload_n 3, 1) := by decide +kernel
theorem dL_law_418 : decode cL_law 418 = .ok (.iconst 1, 1) := by decide +kernel
theorem dL_law_419 : decode cL_law 419 = .ok (.iadd, 1) := by decide +kernel
theorem dL_law_420 : decode cL_law 420 = .ok (.iaload, 1) := by decide +kernel
theorem dL_law_421 : decode cL_law 421 = .ok (.aload_n 0, 1) := by decide +kernel
theorem dL_law_422 : decode cL_law 422 = .ok (.iload_n 3, 1) := by decide +kernel
theorem dL_law_423 : decode cL_law 423 = .ok (.iconst 2, 1) := by decide +kernel
theorem dL_law_424 : decode cL_law 424 = .ok (.iadd, 1) := by decide +kernel
theorem dL_law_425 : decode cL_law 425 = .ok (.iaload, 1) := by decide +kernel
theorem dL_law_426 : decode cL_law 426 = .ok (.invokevirtual 65, 3) := by decide +kernel
theorem dL_law_429 : decode cL_law 429 = .ok (.if_icmp .eq 104, 3) := by decide +kernel
theorem dL_law_432 : decode cL_law 432 = .ok (.iconst 0, 1) := by decide +kernel
theorem dL_law_433 : decode cL_law 433 = .ok (.ireturn, 1) := by decide +kernel
theorem dL_law_434 : decode cL_law 434 = .ok (.aload_n 1, 1) := by decide +kernel
theorem dL_law_435 : decode cL_law 435 = .ok (.aload_n 0, 1) := by decide +kernel
theorem dL_law_436 : decode cL_law 436 = .ok (.iload_n 3, 1) := by decide +kernel
theorem dL_law_437 : decode cL_law 437 = .ok (.iconst 1, 1) := by decide +kernel
theorem dL_law_438 : decode cL_law 438 = .ok (.iadd, 1) := by decide +kernel
theorem dL_law_439 : decode cL_law 439 = .ok (.iaload, 1) := by decide +kernel
theorem dL_law_440 : decode cL_law 440 = .ok (.aload_n 0, 1) := by decide +kernel
theorem dL_law_441 : decode cL_law 441 = .ok (.iload_n 3, 1) := by decide +kernel
theorem dL_law_442 : decode cL_law 442 = .ok (.iconst 2, 1) := by decide +kernel
theorem dL_law_443 : decode cL_law 443 = .ok (.iadd, 1) := by decide +kernel
theorem dL_law_444 : decode cL_law 444 = .ok (.iaload, 1) := by decide +kernel
theorem dL_law_445 : decode cL_law 445 = .ok (.aload_n 0, 1) := by decide +kernel
theorem dL_law_446 : decode cL_law 446 = .ok (.iload_n 3, 1) := by decide +kernel
theorem dL_law_447 : decode cL_law 447 = .ok (.iconst 3, 1) := by decide +kernel
theorem dL_law_448 : decode cL_law 448 = .ok (.iadd, 1) := by decide +kernel
theorem dL_law_449 : decode cL_law 449 = .ok (.iaload, 1) := by decide +kernel
theorem dL_law_450 : decode cL_law 450 = .ok (.invokevirtual 66, 3) := by decide +kernel
theorem dL_law_453 : decode cL_law 453 = .ok (.aload_n 2, 1) := by decide +kernel
theorem dL_law_454 : decode cL_law 454 = .ok (.aload_n 0, 1) := by decide +kernel
theorem dL_law_455 : decode cL_law 455 = .ok (.iload_n 3, 1) := by decide +kernel
theorem dL_law_456 : decode cL_law 456 = .ok (.iconst 1, 1) := by decide +kernel
theorem dL_law_457 : decode cL_law 457 = .ok (.iadd, 1) := by decide +kernel
theorem dL_law_458 : decode cL_law 458 = .ok (.iaload, 1) := by decide +kernel
theorem dL_law_459 : decode cL_law 459 = .ok (.aload_n 0, 1) := by decide +kernel
theorem dL_law_460 : decode cL_law 460 = .ok (.iload_n 3, 1) := by decide +kernel
theorem dL_law_461 : decode cL_law 461 = .ok (.iconst 2, 1) := by decide +kernel
theorem dL_law_462 : decode cL_law 462 = .ok (.iadd, 1) := by decide +kernel
theorem dL_law_463 : decode cL_law 463 = .ok (.iaload, 1) := by decide +kernel
theorem dL_law_464 : decode cL_law 464 = .ok (.aload_n 0, 1) := by decide +kernel
theorem dL_law_465 : decode cL_law 465 = .ok (.iload_n 3, 1) := by decide +kernel
theorem dL_law_466 : decode cL_law 466 = .ok (.iconst 3, 1) := by decide +kernel
theorem dL_law_467 : decode cL_law 467 = .ok (.iadd, 1) := by decide +kernel
theorem dL_law_468 : decode cL_law 468 = .ok (.iaload, 1) := by decide +kernel
theorem dL_law_469 : decode cL_law 469 = .ok (.invokevirtual 70, 3) := by decide +kernel
theorem dL_law_472 : decode cL_law 472 = .ok (.if_icmp .eq 61, 3) := by decide +kernel
theorem dL_law_475 : decode cL_law 475 = .ok (.iconst 0, 1) := by decide +kernel
theorem dL_law_476 : decode cL_law 476 = .ok (.ireturn, 1) := by decide +kernel
theorem dL_law_477 : decode cL_law 477 = .ok (.aload_n 1, 1) := by decide +kernel
theorem dL_law_478 : decode cL_law 478 = .ok (.aload_n 0, 1) := by decide +kernel
theorem dL_law_479 : decode cL_law 479 = .ok (.iload_n 3, 1) := by decide +kernel
theorem dL_law_480 : decode cL_law 480 = .ok (.iconst 1, 1) := by decide +kernel
theorem dL_law_481 : decode cL_law 481 = .ok (.iadd, 1) := by decide +kernel
theorem dL_law_482 : decode cL_law 482 = .ok (.iaload, 1) := by decide +kernel
theorem dL_law_483 : decode cL_law 483 = .ok (.aload_n 0, 1) := by decide +kernel
theorem dL_law_484 : decode cL_law 484 = .ok (.iload_n 3, 1) := by decide +kernel
theorem dL_law_485 : decode cL_law 485 = .ok (.iconst 2, 1) := by decide +kernel
theorem dL_law_486 : decode cL_law 486 = .ok (.iadd, 1) := by decide +kernel
theorem dL_law_487 : decode cL_law 487 = .ok (.iaload, 1) := by decide +kernel
theorem dL_law_488 : decode cL_law 488 = .ok (.invokevirtual 71, 3) := by decide +kernel
theorem dL_law_491 : decode cL_law 491 = .ok (.aload_n 2, 1) := by decide +kernel
theorem dL_law_492 : decode cL_law 492 = .ok (.aload_n 0, 1) := by decide +kernel
theorem dL_law_493 : decode cL_law 493 = .ok (.iload_n 3, 1) := by decide +kernel
theorem dL_law_494 : decode cL_law 494 = .ok (.iconst 1, 1) := by decide +kernel
theorem dL_law_495 : decode cL_law 495 = .ok (.iadd, 1) := by decide +kernel
theorem dL_law_496 : decode cL_law 496 = .ok (.iaload, 1) := by decide +kernel
theorem dL_law_497 : decode cL_law 497 = .ok (.aload_n 0, 1) := by decide +kernel
theorem dL_law_498 : decode cL_law 498 = .ok (.iload_n 3, 1) := by decide +kernel
theorem dL_law_499 : decode cL_law 499 = .ok (.iconst 2, 1) := by decide +kernel
theorem dL_law_500 : decode cL_law 500 = .ok (.iadd, 1) := by decide +kernel
theorem dL_law_501 : decode cL_law 501 = .ok (.iaload, 1) := by decide +kernel
theorem dL_law_502 : decode cL_law 502 = .ok (.invokevirtual 74, 3) := by decide +kernel
theorem dL_law_505 : decode cL_law 505 = .ok (.if_icmp .eq 28, 3) := by decide +kernel
theorem dL_law_508 : decode cL_law 508 = .ok (.iconst 0, 1) := by decide +kernel
theorem dL_law_509 : decode cL_law 509 = .ok (.ireturn, 1) := by decide +kernel
theorem dL_law_510 : decode cL_law 510 = .ok (.aload_n 1, 1) := by decide +kernel
theorem dL_law_511 : decode cL_law 511 = .ok (.aload_n 0, 1) := by decide +kernel
theorem dL_law_512 : decode cL_law 512 = .ok (.iload_n 3, 1) := by decide +kernel
theorem dL_law_513 : decode cL_law 513 = .ok (.iconst 1, 1) := by decide +kernel
theorem dL_law_514 : decode cL_law 514 = .ok (.iadd, 1) := by decide +kernel
theorem dL_law_515 : decode cL_law 515 = .ok (.iaload, 1) := by decide +kernel
theorem dL_law_516 : decode cL_law 516 = .ok (.invokevirtual 75, 3) := by decide +kernel
theorem dL_law_519 : decode cL_law 519 = .ok (.aload_n 2, 1) := by decide +kernel
theorem dL_law_520 : decode cL_law 520 = .ok (.aload_n 0, 1) := by decide +kernel
theorem dL_law_521 : decode cL_law 521 = .ok (.iload_n 3, 1) := by decide +kernel
theorem dL_law_522 : decode cL_law 522 = .ok (.iconst 1, 1) := by decide +kernel
theorem dL_law_523 : decode cL_law 523 = .ok (.iadd, 1) := by decide +kernel
theorem dL_law_524 : decode cL_law 524 = .ok (.iaload, 1) := by decide +kernel
theorem dL_law_525 : decode cL_law 525 = .ok (.invokevirtual 78, 3) := by decide +kernel
theorem dL_law_528 : decode cL_law 528 = .ok (.if_icmp .eq 5, 3) := by decide +kernel
theorem dL_law_531 : decode cL_law 531 = .ok (.iconst 0, 1) := by decide +kernel
theorem dL_law_532 : decode cL_law 532 = .ok (.ireturn, 1) := by decide +kernel
theorem dL_law_533 : decode cL_law 533 = .ok (.iinc 3 4, 3) := by decide +kernel
theorem dL_law_536 : decode cL_law 536 = .ok (.goto (-518), 3) := by decide +kernel
theorem dL_law_539 : decode cL_law 539 = .ok (.iconst 1, 1) := by decide +kernel
theorem dL_law_540 : decode cL_law 540 = .ok (.ireturn, 1) := by decide +kernel
end
section
/-! THE SMALL LOGIC: a world of cells, a place in the code, locals by a list, the stack; H, locs and ls are hidden -/
set_option maxRecDepth 100000
abbrev vwCl : List vw_C := [(RX0, TX0, 11), (RX1, TX1, 4)]
def rmD (d : Nat) : Room := { frames := d, cells := 0, slots := 0, locals := 30 * d }
def lins (q : Nat × Value) : List (Nat × Value) → List (Nat × Value)
  | [] => [q]
  | r :: l => if q.1 < r.1 then q :: r :: l else r :: lins q l
theorem lins_mem {q r : Nat × Value} : ∀ {l : List (Nat × Value)}, r ∈ lins q l → r = q ∨ r ∈ l := by
  intro l
  induction l with
  | nil => intro h; exact Or.inl (List.mem_singleton.mp h)
  | cons a l ih =>
    intro h
    by_cases hc : q.1 < a.1
    · rw [lins, if_pos hc] at h
      exact List.mem_cons.mp h
    · rw [lins, if_neg hc] at h
      rcases List.mem_cons.mp h with e | e
      · exact Or.inr (e ▸ List.mem_cons_self)
      · rcases ih e with e | e
        · exact Or.inl e
        · exact Or.inr (List.mem_cons_of_mem _ e)
def lset (l : List (Nat × Value)) (i : Nat) (v : Value) : List (Nat × Value) := lins (i, v) (l.filter (fun q => !(q.1 == i) && !(q.1 + 1 == i && q.2.category == 2)))
def lget : List (Nat × Value) → Nat → Option Value
  | [], _ => none
  | q :: l, i => if q.1 = i then some q.2 else lget l i
theorem lget_mem {i : Nat} {v : Value} : ∀ {l : List (Nat × Value)}, lget l i = some v → (i, v) ∈ l := by
  intro l
  induction l with
  | nil => intro h; cases h
  | cons a l ih =>
    intro h
    by_cases hc : a.1 = i
    · rw [lget, if_pos hc] at h
      cases h
      rw [← hc]
      exact List.mem_cons_self
    · rw [lget, if_neg hc] at h
      exact List.mem_cons_of_mem _ (ih h)
theorem lget_at {ls : Array Slot} {nL : Nat} {l : List (Nat × Value)} {i : Nat} {v : Value} (h : lv_has ls nL l) (hk : lget l i = some v) : ls[i]? = some (.val v) := h.2.2 (i, v) (lget_mem hk)
theorem lset_has {ls : Array Slot} {nL : Nat} {l : List (Nat × Value)} {i : Nat} {v : Value} (h : lv_has ls nL ((i, v) :: l.filter (fun q => !(q.1 == i) && !(q.1 + 1 == i && q.2.category == 2)))) : lv_has ls nL (lset l i v) := by
  refine ⟨h.1, h.2.1, fun q hq => h.2.2 q ?_⟩
  rcases lins_mem hq with e | e
  · exact e ▸ List.mem_cons_self
  · exact List.mem_cons_of_mem _ e
def lsubB (l l' : List (Nat × Value)) : Prop := ∀ q ∈ l', q ∈ l
def updN (f : Nat → Nat) (k x : Nat) : Nat → Nat := fun j => if j = k then x else f j
def nf (f : Nat → Nat) : Nat → Int32 := fun j => nI (f j)
theorem nf_upd (f : Nat → Nat) (k x : Nat) : upd (nf f) k (nI x) = nf (updN f k x) := by
  funext j
  simp only [upd, nf, updN]
  by_cases h : j = k
  · rw [if_pos h, if_pos h]
  · rw [if_neg h, if_neg h]
theorem nI_byte : ∀ n, n < 128 → (nI n).toInt8.toInt32 = nI n := by decide +kernel
theorem nI_nar {n : Nat} (h : n < 128) : vp_nar .byte (nI n) = nI n := by
  rw [vp_nar_byte]; exact nI_byte n h
/-- the frame of a method's walk -/
def TW (p : Program) (l : Launch) (e : Env) (R : Room) (s : State) (m : MethodId) (args : Array Value) (below : List Frame) (meth : Method) (c : Code) (cells slots : Nat) (Q : State → Prop) (D : va_G) (A : Nat → Prop) (nL : Nat) (ws : va_W) (pc : Nat) (lv : List (Nat × Value)) (st : List Value) : Prop :=
  ∀ (H : Heap) (locs : List Loc) (ls : Array Slot), va_P D vwCl ws H → va_D A ws → va_S A s.heap H locs → lv_has ls nL lv → W p l e R s m args below meth c H locs cells slots Q (F0 m pc ls st)
/-- what stays all through a method -/
def Cx (p : Program) (s : State) (m : MethodId) (args : Array Value) (meth : Method) (c : Code) (D : va_G) (A : Nat → Prop) (nL : Nat) (cc : ByteArray) (own : String) (tys : List (ClassId × FieldType)) (ret : Option FieldType) : Prop :=
  p.tables.exec = Jvm.exec ∧ c.code = cc ∧ c.maxLocals = nL ∧ s.vm.findClass own = some m.cls ∧ (∀ w ∈ lw_all, w.before args s = true) ∧ (∀ q : Nat, s.heap.size ≤ q → A q) ∧ va_K D vwCl tys s ∧ meth.locks = false ∧ meth.sig.returnType = ret
section TWR
variable {p : Program} {l : Launch} {e : Env} {R : Room} {s : State} {m : MethodId} {args : Array Value} {below : List Frame} {meth : Method} {c : Code} {cells slots : Nat} {Q : State → Prop} {D : va_G} {A : Nat → Prop} {nL : Nat} {ws : va_W} {pc : Nat} {lv : List (Nat × Value)} {st : List Value}
variable {cc : ByteArray} {own : String} {tys : List (ClassId × FieldType)} {ret : Option FieldType}
theorem tw_eq {ws' : va_W} (h : ws = ws') (k : TW p l e R s m args below meth c cells slots Q D A nL ws' pc lv st) : TW p l e R s m args below meth c cells slots Q D A nL ws pc lv st := h ▸ k
theorem tw_lv {lv' : List (Nat × Value)} (h : ∀ q ∈ lv', q ∈ lv) (k : TW p l e R s m args below meth c cells slots Q D A nL ws pc lv' st) : TW p l e R s m args below meth c cells slots Q D A nL ws pc lv st :=
  fun H locs ls hP hD hS hl => k H locs ls hP hD hS ⟨hl.1, hl.2.1, fun q hq => hl.2.2 q (h q hq)⟩
theorem tw_top {v v' : Value} (h : v = v') (k : TW p l e R s m args below meth c cells slots Q D A nL ws pc lv (v' :: st)) : TW p l e R s m args below meth c cells slots Q D A nL ws pc lv (v :: st) := h ▸ k
theorem tw_iconst (C : Cx p s m args meth c D A nL cc own tys ret) {n : Int} (v : Int32) (hdg : decode cc pc = .ok (.iconst n, 1)) (hv : Int32.ofInt n = v) (k : TW p l e R s m args below meth c cells slots Q D A nL ws (pc + 1) lv (.int v :: st)) : TW p l e R s m args below meth c cells slots Q D A nL ws pc lv st :=
  fun H locs ls hP hD hS hl => lv_iconst C.1 C.2.1 hdg hv (k H locs ls hP hD hS hl)
theorem tw_bipush (C : Cx p s m args meth c D A nL cc own tys ret) {n : Int} (v : Int32) (hdg : decode cc pc = .ok (.bipush n, 2)) (hv : (Int8.ofInt n).toInt32 = v) (k : TW p l e R s m args below meth c cells slots Q D A nL ws (pc + 2) lv (.int v :: st)) : TW p l e R s m args below meth c cells slots Q D A nL ws pc lv st :=
  fun H locs ls hP hD hS hl => lv_bipush C.1 C.2.1 hdg hv (k H locs ls hP hD hS hl)
theorem tw_sipush (C : Cx p s m args meth c D A nL cc own tys ret) {n : Int} (v : Int32) (hdg : decode cc pc = .ok (.sipush n, 3)) (hv : (Int16.ofInt n).toInt32 = v) (k : TW p l e R s m args below meth c cells slots Q D A nL ws (pc + 3) lv (.int v :: st)) : TW p l e R s m args below meth c cells slots Q D A nL ws pc lv st :=
  fun H locs ls hP hD hS hl => lv_sipush C.1 C.2.1 hdg hv (k H locs ls hP hD hS hl)
theorem tw_iload_n (C : Cx p s m args meth c D A nL cc own tys ret) {k : Fin 4} {x : Int32} (hdg : decode cc pc = .ok (.iload_n k, 1)) (hl0 : lget lv k = some (.int x)) (kk : TW p l e R s m args below meth c cells slots Q D A nL ws (pc + 1) lv (.int x :: st)) : TW p l e R s m args below meth c cells slots Q D A nL ws pc lv st :=
  fun H locs ls hP hD hS hl => lv_iload_n C.1 C.2.1 hdg rfl (lget_at hl hl0) (kk H locs ls hP hD hS hl)
theorem tw_iload (C : Cx p s m args meth c D A nL cc own tys ret) {k : Nat} {x : Int32} (hdg : decode cc pc = .ok (.iload k, 2)) (hl0 : lget lv k = some (.int x)) (kk : TW p l e R s m args below meth c cells slots Q D A nL ws (pc + 2) lv (.int x :: st)) : TW p l e R s m args below meth c cells slots Q D A nL ws pc lv st :=
  fun H locs ls hP hD hS hl => lv_iload C.1 C.2.1 hdg (lget_at hl hl0) (kk H locs ls hP hD hS hl)
theorem tw_aload_n (C : Cx p s m args meth c D A nL cc own tys ret) {k : Fin 4} {x : Nat} (hdg : decode cc pc = .ok (.aload_n k, 1)) (hl0 : lget lv k = some (.ref x)) (kk : TW p l e R s m args below meth c cells slots Q D A nL ws (pc + 1) lv (.ref x :: st)) : TW p l e R s m args below meth c cells slots Q D A nL ws pc lv st :=
  fun H locs ls hP hD hS hl => lv_aload_n C.1 C.2.1 hdg rfl (lget_at hl hl0) (kk H locs ls hP hD hS hl)
theorem tw_istore_n (C : Cx p s m args meth c D A nL cc own tys ret) {k : Fin 4} {x : Int32} {lv' : List (Nat × Value)} (hdg : decode cc pc = .ok (.istore_n k, 1)) (hn : (k : Nat) < nL) (he : lset lv k (.int x) = lv') (kk : TW p l e R s m args below meth c cells slots Q D A nL ws (pc + 1) lv' st) : TW p l e R s m args below meth c cells slots Q D A nL ws pc lv (.int x :: st) :=
  fun H locs ls hP hD hS hl => lv_istore_n C.1 C.2.1 hdg rfl hl hn rfl (fun ls' hl' => kk H locs ls' hP hD hS (he ▸ lset_has hl'))
theorem tw_istore (C : Cx p s m args meth c D A nL cc own tys ret) {k : Nat} {x : Int32} {lv' : List (Nat × Value)} (hdg : decode cc pc = .ok (.istore k, 2)) (hn : k < nL) (he : lset lv k (.int x) = lv') (kk : TW p l e R s m args below meth c cells slots Q D A nL ws (pc + 2) lv' st) : TW p l e R s m args below meth c cells slots Q D A nL ws pc lv (.int x :: st) :=
  fun H locs ls hP hD hS hl => lv_istore C.1 C.2.1 hdg hl hn rfl (fun ls' hl' => kk H locs ls' hP hD hS (he ▸ lset_has hl'))
theorem tw_iinc (C : Cx p s m args meth c D A nL cc own tys ret) {k : Nat} {n : Int} {x : Int32} (v : Int32) {lv' : List (Nat × Value)} (hdg : decode cc pc = .ok (.iinc k n, 3)) (hl0 : lget lv k = some (.int x)) (hv : x + Int32.ofInt n = v) (hn : k < nL) (he : lset lv k (.int v) = lv') (kk : TW p l e R s m args below meth c cells slots Q D A nL ws (pc + 3) lv' st) : TW p l e R s m args below meth c cells slots Q D A nL ws pc lv st := by
  intro H locs ls hP hD hS hl
  obtain ⟨j, hj⟩ := List.getElem?_of_mem (lget_mem hl0)
  exact lv_iinc C.1 C.2.1 hdg hl (k := j) hj hv hn rfl (fun ls' hl' => kk H locs ls' hP hD hS (he ▸ lset_has hl'))
theorem tw_iadd (C : Cx p s m args meth c D A nL cc own tys ret) {x y : Int32} (hdg : decode cc pc = .ok (.iadd, 1)) (kk : TW p l e R s m args below meth c cells slots Q D A nL ws (pc + 1) lv (.int (x + y) :: st)) : TW p l e R s m args below meth c cells slots Q D A nL ws pc lv (.int y :: .int x :: st) :=
  fun H locs ls hP hD hS hl => lv_iadd C.1 C.2.1 hdg (kk H locs ls hP hD hS hl)
theorem tw_isub (C : Cx p s m args meth c D A nL cc own tys ret) {x y : Int32} (hdg : decode cc pc = .ok (.isub, 1)) (kk : TW p l e R s m args below meth c cells slots Q D A nL ws (pc + 1) lv (.int (x - y) :: st)) : TW p l e R s m args below meth c cells slots Q D A nL ws pc lv (.int y :: .int x :: st) :=
  fun H locs ls hP hD hS hl => lv_isub C.1 C.2.1 hdg (kk H locs ls hP hD hS hl)
theorem tw_imul (C : Cx p s m args meth c D A nL cc own tys ret) {x y : Int32} (hdg : decode cc pc = .ok (.imul, 1)) (kk : TW p l e R s m args below meth c cells slots Q D A nL ws (pc + 1) lv (.int (x * y) :: st)) : TW p l e R s m args below meth c cells slots Q D A nL ws pc lv (.int y :: .int x :: st) :=
  fun H locs ls hP hD hS hl => lv_imul C.1 C.2.1 hdg (kk H locs ls hP hD hS hl)
theorem tw_iand (C : Cx p s m args meth c D A nL cc own tys ret) {x y : Int32} (hdg : decode cc pc = .ok (.iand, 1)) (kk : TW p l e R s m args below meth c cells slots Q D A nL ws (pc + 1) lv (.int (x &&& y) :: st)) : TW p l e R s m args below meth c cells slots Q D A nL ws pc lv (.int y :: .int x :: st) :=
  fun H locs ls hP hD hS hl => lv_iand C.1 C.2.1 hdg (kk H locs ls hP hD hS hl)
theorem tw_ior (C : Cx p s m args meth c D A nL cc own tys ret) {x y : Int32} (hdg : decode cc pc = .ok (.ior, 1)) (kk : TW p l e R s m args below meth c cells slots Q D A nL ws (pc + 1) lv (.int (x ||| y) :: st)) : TW p l e R s m args below meth c cells slots Q D A nL ws pc lv (.int y :: .int x :: st) :=
  fun H locs ls hP hD hS hl => lv_ior C.1 C.2.1 hdg (kk H locs ls hP hD hS hl)
theorem tw_ixor (C : Cx p s m args meth c D A nL cc own tys ret) {x y : Int32} (hdg : decode cc pc = .ok (.ixor, 1)) (kk : TW p l e R s m args below meth c cells slots Q D A nL ws (pc + 1) lv (.int (x ^^^ y) :: st)) : TW p l e R s m args below meth c cells slots Q D A nL ws pc lv (.int y :: .int x :: st) :=
  fun H locs ls hP hD hS hl => lv_ixor C.1 C.2.1 hdg (kk H locs ls hP hD hS hl)
theorem tw_ishl (C : Cx p s m args meth c D A nL cc own tys ret) {x y : Int32} (hdg : decode cc pc = .ok (.ishl, 1)) (kk : TW p l e R s m args below meth c cells slots Q D A nL ws (pc + 1) lv (.int (x <<< (y &&& 31)) :: st)) : TW p l e R s m args below meth c cells slots Q D A nL ws pc lv (.int y :: .int x :: st) :=
  fun H locs ls hP hD hS hl => lv_ishl C.1 C.2.1 hdg (kk H locs ls hP hD hS hl)
theorem tw_ishr (C : Cx p s m args meth c D A nL cc own tys ret) {x y : Int32} (hdg : decode cc pc = .ok (.ishr, 1)) (kk : TW p l e R s m args below meth c cells slots Q D A nL ws (pc + 1) lv (.int (x >>> (y &&& 31)) :: st)) : TW p l e R s m args below meth c cells slots Q D A nL ws pc lv (.int y :: .int x :: st) :=
  fun H locs ls hP hD hS hl => lv_ishr C.1 C.2.1 hdg (kk H locs ls hP hD hS hl)
theorem tw_irem (C : Cx p s m args meth c D A nL cc own tys ret) {x y : Int32} (hdg : decode cc pc = .ok (.irem, 1)) (hne : ¬ y = 0) (kk : TW p l e R s m args below meth c cells slots Q D A nL ws (pc + 1) lv (.int (x - x / y * y) :: st)) : TW p l e R s m args below meth c cells slots Q D A nL ws pc lv (.int y :: .int x :: st) :=
  fun H locs ls hP hD hS hl => lv_irem C.1 C.2.1 hdg hne (kk H locs ls hP hD hS hl)
theorem tw_i2b (C : Cx p s m args meth c D A nL cc own tys ret) {x : Int32} (v : Int32) (hdg : decode cc pc = .ok (.i2b, 1)) (hv : x.toInt8.toInt32 = v) (kk : TW p l e R s m args below meth c cells slots Q D A nL ws (pc + 1) lv (.int v :: st)) : TW p l e R s m args below meth c cells slots Q D A nL ws pc lv (.int x :: st) :=
  fun H locs ls hP hD hS hl => lv_i2b C.1 C.2.1 hdg hv (kk H locs ls hP hD hS hl)
theorem tw_dup (C : Cx p s m args meth c D A nL cc own tys ret) {v : Value} (hdg : decode cc pc = .ok (.dup, 1)) (hv : v.category = 1) (kk : TW p l e R s m args below meth c cells slots Q D A nL ws (pc + 1) lv (v :: v :: st)) : TW p l e R s m args below meth c cells slots Q D A nL ws pc lv (v :: st) :=
  fun H locs ls hP hD hS hl => lv_dup C.1 C.2.1 hdg hv (kk H locs ls hP hD hS hl)
theorem tw_dup2 (C : Cx p s m args meth c D A nL cc own tys ret) {v w : Value} (hdg : decode cc pc = .ok (.dup2, 1)) (hv : v.category = 1) (hw : w.category = 1) (kk : TW p l e R s m args below meth c cells slots Q D A nL ws (pc + 1) lv (v :: w :: v :: w :: st)) : TW p l e R s m args below meth c cells slots Q D A nL ws pc lv (v :: w :: st) :=
  fun H locs ls hP hD hS hl => lv_dup2_11 C.1 C.2.1 hdg hv hw (kk H locs ls hP hD hS hl)
theorem tw_goto (C : Cx p s m args meth c D A nL cc own tys ret) {off : Int} (tgt : Nat) (hdg : decode cc pc = .ok (.goto off, 3)) (ht : (pc : Int) + off = (tgt : Int)) (kk : TW p l e R s m args below meth c cells slots Q D A nL ws tgt lv st) : TW p l e R s m args below meth c cells slots Q D A nL ws pc lv st :=
  fun H locs ls hP hD hS hl => lv_goto C.1 C.2.1 hdg ht (kk H locs ls hP hD hS hl)
/-! Nat rows -/
theorem tn_iadd (C : Cx p s m args meth c D A nL cc own tys ret) {x y : Nat} (hdg : decode cc pc = .ok (.iadd, 1)) (kk : TW p l e R s m args below meth c cells slots Q D A nL ws (pc + 1) lv (.int (nI (x + y)) :: st)) : TW p l e R s m args below meth c cells slots Q D A nL ws pc lv (.int (nI y) :: .int (nI x) :: st) :=
  tw_iadd C hdg (tw_top (congrArg Value.int (nI_add x y)) kk)
theorem tn_imul (C : Cx p s m args meth c D A nL cc own tys ret) {x y : Nat} (hdg : decode cc pc = .ok (.imul, 1)) (kk : TW p l e R s m args below meth c cells slots Q D A nL ws (pc + 1) lv (.int (nI (x * y)) :: st)) : TW p l e R s m args below meth c cells slots Q D A nL ws pc lv (.int (nI y) :: .int (nI x) :: st) :=
  tw_imul C hdg (tw_top (congrArg Value.int (pk_mul x y)) kk)
theorem tn_isub (C : Cx p s m args meth c D A nL cc own tys ret) {x y : Nat} (hdg : decode cc pc = .ok (.isub, 1)) (hle : y ≤ x) (kk : TW p l e R s m args below meth c cells slots Q D A nL ws (pc + 1) lv (.int (nI (x - y)) :: st)) : TW p l e R s m args below meth c cells slots Q D A nL ws pc lv (.int (nI y) :: .int (nI x) :: st) :=
  tw_isub C hdg (tw_top (congrArg Value.int (pk_sub hle)) kk)
theorem tn_i2b (C : Cx p s m args meth c D A nL cc own tys ret) {x : Nat} (hdg : decode cc pc = .ok (.i2b, 1)) (hx : x < 128) (kk : TW p l e R s m args below meth c cells slots Q D A nL ws (pc + 1) lv (.int (nI x) :: st)) : TW p l e R s m args below meth c cells slots Q D A nL ws pc lv (.int (nI x) :: st) :=
  tw_i2b C _ hdg (nI_byte x hx) kk
theorem tn_inc (C : Cx p s m args meth c D A nL cc own tys ret) {k x : Nat} {lv' : List (Nat × Value)} (hdg : decode cc pc = .ok (.iinc k 1, 3)) (hl0 : lget lv k = some (.int (nI x))) (hn : k < nL) (he : lset lv k (.int (nI (x + 1))) = lv') (kk : TW p l e R s m args below meth c cells slots Q D A nL ws (pc + 3) lv' st) : TW p l e R s m args below meth c cells slots Q D A nL ws pc lv st :=
  tw_iinc C _ hdg hl0 (nI_1 x) hn he kk
theorem tn_dec (C : Cx p s m args meth c D A nL cc own tys ret) {k x : Nat} {lv' : List (Nat × Value)} (hdg : decode cc pc = .ok (.iinc k (-1), 3)) (hl0 : lget lv k = some (.int (nI (x + 1)))) (hn : k < nL) (he : lset lv k (.int (nI x)) = lv') (kk : TW p l e R s m args below meth c cells slots Q D A nL ws (pc + 3) lv' st) : TW p l e R s m args below meth c cells slots Q D A nL ws pc lv st :=
  tw_iinc C _ hdg hl0 (pk_m1 x) hn he kk
end TWR
end
section
set_option maxRecDepth 100000
/-! BRANCH ROWS -/
section TWB
variable {p : Program} {l : Launch} {e : Env} {R : Room} {s : State} {m : MethodId} {args : Array Value} {below : List Frame} {meth : Method} {c : Code} {cells slots : Nat} {Q : State → Prop} {D : va_G} {A : Nat → Prop} {nL : Nat} {ws : va_W} {pc : Nat} {lv : List (Nat × Value)} {st : List Value}
variable {cc : ByteArray} {own : String} {tys : List (ClassId × FieldType)} {ret : Option FieldType}
theorem tw_icmp_eq (C : Cx p s m args meth c D A nL cc own tys ret) {x y : Int32} {off : Int} (tgt : Nat) (hdg : decode cc pc = .ok (.if_icmp .eq off, 3)) (ht : (pc : Int) + off = (tgt : Int)) (kt : x = y → TW p l e R s m args below meth c cells slots Q D A nL ws tgt lv st) (kf : ¬ x = y → TW p l e R s m args below meth c cells slots Q D A nL ws (pc + 3) lv st) : TW p l e R s m args below meth c cells slots Q D A nL ws pc lv (.int y :: .int x :: st) :=
  fun H locs ls hP hD hS hl => lv_icmp_eq C.1 C.2.1 hdg ht (fun h => kt h H locs ls hP hD hS hl) (fun h => kf h H locs ls hP hD hS hl)
theorem tw_if_eq (C : Cx p s m args meth c D A nL cc own tys ret) {x : Int32} {off : Int} (tgt : Nat) (hdg : decode cc pc = .ok (.ifCond .eq off, 3)) (ht : (pc : Int) + off = (tgt : Int)) (kt : x = 0 → TW p l e R s m args below meth c cells slots Q D A nL ws tgt lv st) (kf : ¬ x = 0 → TW p l e R s m args below meth c cells slots Q D A nL ws (pc + 3) lv st) : TW p l e R s m args below meth c cells slots Q D A nL ws pc lv (.int x :: st) :=
  fun H locs ls hP hD hS hl => lv_if_eq C.1 C.2.1 hdg ht (fun h => kt h H locs ls hP hD hS hl) (fun h => kf h H locs ls hP hD hS hl)
theorem tn_icmp_eq (C : Cx p s m args meth c D A nL cc own tys ret) {a b : Nat} {off : Int} (tgt : Nat) (hdg : decode cc pc = .ok (.if_icmp .eq off, 3)) (ht : (pc : Int) + off = (tgt : Int)) (ha : a < 2 ^ 31) (hb : b < 2 ^ 31) (kt : a = b → TW p l e R s m args below meth c cells slots Q D A nL ws tgt lv st) (kf : a ≠ b → TW p l e R s m args below meth c cells slots Q D A nL ws (pc + 3) lv st) : TW p l e R s m args below meth c cells slots Q D A nL ws pc lv (.int (nI b) :: .int (nI a) :: st) :=
  tw_icmp_eq C tgt hdg ht (fun h => kt ((nI_eq ha hb).mp h)) (fun h => kf (fun h2 => h ((nI_eq ha hb).mpr h2)))
theorem tw_icmp_ne (C : Cx p s m args meth c D A nL cc own tys ret) {x y : Int32} {off : Int} (tgt : Nat) (hdg : decode cc pc = .ok (.if_icmp .ne off, 3)) (ht : (pc : Int) + off = (tgt : Int)) (kt : ¬ x = y → TW p l e R s m args below meth c cells slots Q D A nL ws tgt lv st) (kf : x = y → TW p l e R s m args below meth c cells slots Q D A nL ws (pc + 3) lv st) : TW p l e R s m args below meth c cells slots Q D A nL ws pc lv (.int y :: .int x :: st) :=
  fun H locs ls hP hD hS hl => lv_icmp_ne C.1 C.2.1 hdg ht (fun h => kt h H locs ls hP hD hS hl) (fun h => kf h H locs ls hP hD hS hl)
theorem tw_if_ne (C : Cx p s m args meth c D A nL cc own tys ret) {x : Int32} {off : Int} (tgt : Nat) (hdg : decode cc pc = .ok (.ifCond .ne off, 3)) (ht : (pc : Int) + off = (tgt : Int)) (kt : ¬ x = 0 → TW p l e R s m args below meth c cells slots Q D A nL ws tgt lv st) (kf : x = 0 → TW p l e R s m args below meth c cells slots Q D A nL ws (pc + 3) lv st) : TW p l e R s m args below meth c cells slots Q D A nL ws pc lv (.int x :: st) :=
  fun H locs ls hP hD hS hl => lv_if_ne C.1 C.2.1 hdg ht (fun h => kt h H locs ls hP hD hS hl) (fun h => kf h H locs ls hP hD hS hl)
theorem tn_icmp_ne (C : Cx p s m args meth c D A nL cc own tys ret) {a b : Nat} {off : Int} (tgt : Nat) (hdg : decode cc pc = .ok (.if_icmp .ne off, 3)) (ht : (pc : Int) + off = (tgt : Int)) (ha : a < 2 ^ 31) (hb : b < 2 ^ 31) (kt : a ≠ b → TW p l e R s m args below meth c cells slots Q D A nL ws tgt lv st) (kf : a = b → TW p l e R s m args below meth c cells slots Q D A nL ws (pc + 3) lv st) : TW p l e R s m args below meth c cells slots Q D A nL ws pc lv (.int (nI b) :: .int (nI a) :: st) :=
  tw_icmp_ne C tgt hdg ht (fun h => kt (fun h2 => h ((nI_eq ha hb).mpr h2))) (fun h => kf ((nI_eq ha hb).mp h))
theorem tw_icmp_lt (C : Cx p s m args meth c D A nL cc own tys ret) {x y : Int32} {off : Int} (tgt : Nat) (hdg : decode cc pc = .ok (.if_icmp .lt off, 3)) (ht : (pc : Int) + off = (tgt : Int)) (kt : x < y → TW p l e R s m args below meth c cells slots Q D A nL ws tgt lv st) (kf : ¬ x < y → TW p l e R s m args below meth c cells slots Q D A nL ws (pc + 3) lv st) : TW p l e R s m args below meth c cells slots Q D A nL ws pc lv (.int y :: .int x :: st) :=
  fun H locs ls hP hD hS hl => lv_icmp_lt C.1 C.2.1 hdg ht (fun h => kt h H locs ls hP hD hS hl) (fun h => kf h H locs ls hP hD hS hl)
theorem tw_if_lt (C : Cx p s m args meth c D A nL cc own tys ret) {x : Int32} {off : Int} (tgt : Nat) (hdg : decode cc pc = .ok (.ifCond .lt off, 3)) (ht : (pc : Int) + off = (tgt : Int)) (kt : x < 0 → TW p l e R s m args below meth c cells slots Q D A nL ws tgt lv st) (kf : ¬ x < 0 → TW p l e R s m args below meth c cells slots Q D A nL ws (pc + 3) lv st) : TW p l e R s m args below meth c cells slots Q D A nL ws pc lv (.int x :: st) :=
  fun H locs ls hP hD hS hl => lv_if_lt C.1 C.2.1 hdg ht (fun h => kt h H locs ls hP hD hS hl) (fun h => kf h H locs ls hP hD hS hl)
theorem tn_icmp_lt (C : Cx p s m args meth c D A nL cc own tys ret) {a b : Nat} {off : Int} (tgt : Nat) (hdg : decode cc pc = .ok (.if_icmp .lt off, 3)) (ht : (pc : Int) + off = (tgt : Int)) (ha : a < 2 ^ 31) (hb : b < 2 ^ 31) (kt : a < b → TW p l e R s m args below meth c cells slots Q D A nL ws tgt lv st) (kf : b ≤ a → TW p l e R s m args below meth c cells slots Q D A nL ws (pc + 3) lv st) : TW p l e R s m args below meth c cells slots Q D A nL ws pc lv (.int (nI b) :: .int (nI a) :: st) :=
  tw_icmp_lt C tgt hdg ht (fun h => kt ((nI_ltI ha hb).mp h)) (fun h => kf (Nat.not_lt.mp (fun h2 => h ((nI_ltI ha hb).mpr h2))))
theorem tw_icmp_ge (C : Cx p s m args meth c D A nL cc own tys ret) {x y : Int32} {off : Int} (tgt : Nat) (hdg : decode cc pc = .ok (.if_icmp .ge off, 3)) (ht : (pc : Int) + off = (tgt : Int)) (kt : y ≤ x → TW p l e R s m args below meth c cells slots Q D A nL ws tgt lv st) (kf : ¬ y ≤ x → TW p l e R s m args below meth c cells slots Q D A nL ws (pc + 3) lv st) : TW p l e R s m args below meth c cells slots Q D A nL ws pc lv (.int y :: .int x :: st) :=
  fun H locs ls hP hD hS hl => lv_icmp_ge C.1 C.2.1 hdg ht (fun h => kt h H locs ls hP hD hS hl) (fun h => kf h H locs ls hP hD hS hl)
theorem tw_if_ge (C : Cx p s m args meth c D A nL cc own tys ret) {x : Int32} {off : Int} (tgt : Nat) (hdg : decode cc pc = .ok (.ifCond .ge off, 3)) (ht : (pc : Int) + off = (tgt : Int)) (kt : 0 ≤ x → TW p l e R s m args below meth c cells slots Q D A nL ws tgt lv st) (kf : ¬ 0 ≤ x → TW p l e R s m args below meth c cells slots Q D A nL ws (pc + 3) lv st) : TW p l e R s m args below meth c cells slots Q D A nL ws pc lv (.int x :: st) :=
  fun H locs ls hP hD hS hl => lv_if_ge C.1 C.2.1 hdg ht (fun h => kt h H locs ls hP hD hS hl) (fun h => kf h H locs ls hP hD hS hl)
theorem tn_icmp_ge (C : Cx p s m args meth c D A nL cc own tys ret) {a b : Nat} {off : Int} (tgt : Nat) (hdg : decode cc pc = .ok (.if_icmp .ge off, 3)) (ht : (pc : Int) + off = (tgt : Int)) (ha : a < 2 ^ 31) (hb : b < 2 ^ 31) (kt : b ≤ a → TW p l e R s m args below meth c cells slots Q D A nL ws tgt lv st) (kf : a < b → TW p l e R s m args below meth c cells slots Q D A nL ws (pc + 3) lv st) : TW p l e R s m args below meth c cells slots Q D A nL ws pc lv (.int (nI b) :: .int (nI a) :: st) :=
  tw_icmp_ge C tgt hdg ht (fun h => kt ((nI_leI hb ha).mp h)) (fun h => kf (Nat.not_le.mp (fun h2 => h ((nI_leI hb ha).mpr h2))))
theorem tw_icmp_gt (C : Cx p s m args meth c D A nL cc own tys ret) {x y : Int32} {off : Int} (tgt : Nat) (hdg : decode cc pc = .ok (.if_icmp .gt off, 3)) (ht : (pc : Int) + off = (tgt : Int)) (kt : y < x → TW p l e R s m args below meth c cells slots Q D A nL ws tgt lv st) (kf : ¬ y < x → TW p l e R s m args below meth c cells slots Q D A nL ws (pc + 3) lv st) : TW p l e R s m args below meth c cells slots Q D A nL ws pc lv (.int y :: .int x :: st) :=
  fun H locs ls hP hD hS hl => lv_icmp_gt C.1 C.2.1 hdg ht (fun h => kt h H locs ls hP hD hS hl) (fun h => kf h H locs ls hP hD hS hl)
theorem tw_if_gt (C : Cx p s m args meth c D A nL cc own tys ret) {x : Int32} {off : Int} (tgt : Nat) (hdg : decode cc pc = .ok (.ifCond .gt off, 3)) (ht : (pc : Int) + off = (tgt : Int)) (kt : 0 < x → TW p l e R s m args below meth c cells slots Q D A nL ws tgt lv st) (kf : ¬ 0 < x → TW p l e R s m args below meth c cells slots Q D A nL ws (pc + 3) lv st) : TW p l e R s m args below meth c cells slots Q D A nL ws pc lv (.int x :: st) :=
  fun H locs ls hP hD hS hl => lv_if_gt C.1 C.2.1 hdg ht (fun h => kt h H locs ls hP hD hS hl) (fun h => kf h H locs ls hP hD hS hl)
theorem tn_icmp_gt (C : Cx p s m args meth c D A nL cc own tys ret) {a b : Nat} {off : Int} (tgt : Nat) (hdg : decode cc pc = .ok (.if_icmp .gt off, 3)) (ht : (pc : Int) + off = (tgt : Int)) (ha : a < 2 ^ 31) (hb : b < 2 ^ 31) (kt : b < a → TW p l e R s m args below meth c cells slots Q D A nL ws tgt lv st) (kf : a ≤ b → TW p l e R s m args below meth c cells slots Q D A nL ws (pc + 3) lv st) : TW p l e R s m args below meth c cells slots Q D A nL ws pc lv (.int (nI b) :: .int (nI a) :: st) :=
  tw_icmp_gt C tgt hdg ht (fun h => kt ((nI_ltI hb ha).mp h)) (fun h => kf (Nat.not_lt.mp (fun h2 => h ((nI_ltI hb ha).mpr h2))))
theorem tw_icmp_le (C : Cx p s m args meth c D A nL cc own tys ret) {x y : Int32} {off : Int} (tgt : Nat) (hdg : decode cc pc = .ok (.if_icmp .le off, 3)) (ht : (pc : Int) + off = (tgt : Int)) (kt : x ≤ y → TW p l e R s m args below meth c cells slots Q D A nL ws tgt lv st) (kf : ¬ x ≤ y → TW p l e R s m args below meth c cells slots Q D A nL ws (pc + 3) lv st) : TW p l e R s m args below meth c cells slots Q D A nL ws pc lv (.int y :: .int x :: st) :=
  fun H locs ls hP hD hS hl => lv_icmp_le C.1 C.2.1 hdg ht (fun h => kt h H locs ls hP hD hS hl) (fun h => kf h H locs ls hP hD hS hl)
theorem tw_if_le (C : Cx p s m args meth c D A nL cc own tys ret) {x : Int32} {off : Int} (tgt : Nat) (hdg : decode cc pc = .ok (.ifCond .le off, 3)) (ht : (pc : Int) + off = (tgt : Int)) (kt : x ≤ 0 → TW p l e R s m args below meth c cells slots Q D A nL ws tgt lv st) (kf : ¬ x ≤ 0 → TW p l e R s m args below meth c cells slots Q D A nL ws (pc + 3) lv st) : TW p l e R s m args below meth c cells slots Q D A nL ws pc lv (.int x :: st) :=
  fun H locs ls hP hD hS hl => lv_if_le C.1 C.2.1 hdg ht (fun h => kt h H locs ls hP hD hS hl) (fun h => kf h H locs ls hP hD hS hl)
theorem tn_icmp_le (C : Cx p s m args meth c D A nL cc own tys ret) {a b : Nat} {off : Int} (tgt : Nat) (hdg : decode cc pc = .ok (.if_icmp .le off, 3)) (ht : (pc : Int) + off = (tgt : Int)) (ha : a < 2 ^ 31) (hb : b < 2 ^ 31) (kt : a ≤ b → TW p l e R s m args below meth c cells slots Q D A nL ws tgt lv st) (kf : b < a → TW p l e R s m args below meth c cells slots Q D A nL ws (pc + 3) lv st) : TW p l e R s m args below meth c cells slots Q D A nL ws pc lv (.int (nI b) :: .int (nI a) :: st) :=
  tw_icmp_le C tgt hdg ht (fun h => kt ((nI_leI ha hb).mp h)) (fun h => kf (Nat.not_le.mp (fun h2 => h ((nI_leI ha hb).mpr h2))))
theorem tn_if_eq (C : Cx p s m args meth c D A nL cc own tys ret) {a : Nat} {off : Int} (tgt : Nat) (hdg : decode cc pc = .ok (.ifCond .eq off, 3)) (ht : (pc : Int) + off = (tgt : Int)) (ha : a < 2 ^ 31) (kt : a = 0 → TW p l e R s m args below meth c cells slots Q D A nL ws tgt lv st) (kf : a ≠ 0 → TW p l e R s m args below meth c cells slots Q D A nL ws (pc + 3) lv st) : TW p l e R s m args below meth c cells slots Q D A nL ws pc lv (.int (nI a) :: st) :=
  tw_if_eq C tgt hdg ht (fun h => kt ((nI_eq ha (show (0 : Nat) < 2 ^ 31 by decide)).mp (h.trans nI_0.symm))) (fun h => kf (fun h2 => h (by rw [h2]; exact nI_0)))
theorem tn_if_ne (C : Cx p s m args meth c D A nL cc own tys ret) {a : Nat} {off : Int} (tgt : Nat) (hdg : decode cc pc = .ok (.ifCond .ne off, 3)) (ht : (pc : Int) + off = (tgt : Int)) (ha : a < 2 ^ 31) (kt : a ≠ 0 → TW p l e R s m args below meth c cells slots Q D A nL ws tgt lv st) (kf : a = 0 → TW p l e R s m args below meth c cells slots Q D A nL ws (pc + 3) lv st) : TW p l e R s m args below meth c cells slots Q D A nL ws pc lv (.int (nI a) :: st) :=
  tw_if_ne C tgt hdg ht (fun h => kt (fun h2 => h (by rw [h2]; exact nI_0))) (fun h => kf ((nI_eq ha (show (0 : Nat) < 2 ^ 31 by decide)).mp (h.trans nI_0.symm)))
theorem tn_if_le (C : Cx p s m args meth c D A nL cc own tys ret) {a : Nat} {off : Int} (tgt : Nat) (hdg : decode cc pc = .ok (.ifCond .le off, 3)) (ht : (pc : Int) + off = (tgt : Int)) (ha : a < 2 ^ 31) (kt : a = 0 → TW p l e R s m args below meth c cells slots Q D A nL ws tgt lv st) (kf : 0 < a → TW p l e R s m args below meth c cells slots Q D A nL ws (pc + 3) lv st) : TW p l e R s m args below meth c cells slots Q D A nL ws pc lv (.int (nI a) :: st) :=
  tw_if_le C tgt hdg ht (fun h => kt (Nat.eq_zero_of_not_pos (fun h2 => nI_nle h2 ha h))) (fun h => kf (Nat.pos_of_ne_zero (fun h2 => h (by rw [h2]; decide))))
theorem tn_if_lt (C : Cx p s m args meth c D A nL cc own tys ret) {a : Nat} {off : Int} (tgt : Nat) (hdg : decode cc pc = .ok (.ifCond .lt off, 3)) (ht : (pc : Int) + off = (tgt : Int)) (ha : a < 2 ^ 31) (kf : TW p l e R s m args below meth c cells slots Q D A nL ws (pc + 3) lv st) : TW p l e R s m args below meth c cells slots Q D A nL ws pc lv (.int (nI a) :: st) :=
  tw_if_lt C tgt hdg ht (fun h => absurd h (nI_pos ha)) (fun _ => kf)
theorem tn_if_ge (C : Cx p s m args meth c D A nL cc own tys ret) {a : Nat} {off : Int} (tgt : Nat) (hdg : decode cc pc = .ok (.ifCond .ge off, 3)) (ht : (pc : Int) + off = (tgt : Int)) (ha : a < 2 ^ 31) (kt : TW p l e R s m args below meth c cells slots Q D A nL ws tgt lv st) : TW p l e R s m args below meth c cells slots Q D A nL ws pc lv (.int (nI a) :: st) :=
  tw_if_ge C tgt hdg ht (fun _ => kt) (fun h => absurd (nI_pos' ha) h)
end TWB
/-! FIELDS, ARRAYS, ENTRY, RETURN, CALLS over any world -/
section TWF
variable {p : Program} {l : Launch} {e : Env} {R : Room} {s : State} {m : MethodId} {args : Array Value} {below : List Frame} {meth : Method} {c : Code} {cells slots : Nat} {Q : State → Prop} {D : va_G} {A : Nat → Prop} {nL : Nat} {ws : va_W} {pc : Nat} {lv : List (Nat × Value)} {st : List Value}
variable {cc : ByteArray} {own : String} {tys : List (ClassId × FieldType)} {ret : Option FieldType}
theorem tw_bald (C : Cx p s m args meth c D A nL cc own tys ret) (q0 t0 : Nat) {cA : ClassId} {n a i : Nat} {f : Nat → Nat} (v : Nat) (ha : ws[q0]? = some (a, .inl (cA, n, .inl (nf f)))) (ht : tys[t0]? = some (cA, .byte)) (hn : n < 2 ^ 31) (hdg : decode cc pc = .ok (.baload, 1)) (hi : i < n) (hv : f i = v) (kk : TW p l e R s m args below meth c cells slots Q D A nL ws (pc + 1) lv (.int (nI v) :: st)) : TW p l e R s m args below meth c cells slots Q D A nL ws pc lv (.int (nI i) :: .ref a :: st) := by
  intro H locs ls hP hD hS hl
  have e1 : nf f (nI i).toNatClampNeg = nI v := by rw [nI_clamp (Nat.lt_trans hi hn), nf, hv]
  exact va_bald C.1 C.2.1 C.2.2.2.2.2.2.1 hP q0 t0 ha ht (vp_in_nI hi hn) hdg (by rw [e1]; exact kk H locs ls hP hD hS hl)
theorem tw_iald (C : Cx p s m args meth c D A nL cc own tys ret) (q0 t0 : Nat) {cA : ClassId} {n a i : Nat} {f : Nat → Int32} (v : Int32) (ha : ws[q0]? = some (a, .inl (cA, n, .inl f))) (ht : tys[t0]? = some (cA, .int)) (hn : n < 2 ^ 31) (hdg : decode cc pc = .ok (.iaload, 1)) (hi : i < n) (hv : f i = v) (kk : TW p l e R s m args below meth c cells slots Q D A nL ws (pc + 1) lv (.int v :: st)) : TW p l e R s m args below meth c cells slots Q D A nL ws pc lv (.int (nI i) :: .ref a :: st) := by
  intro H locs ls hP hD hS hl
  have e1 : f (nI i).toNatClampNeg = v := by rw [nI_clamp (Nat.lt_trans hi hn), hv]
  exact va_iald C.1 C.2.1 C.2.2.2.2.2.2.1 hP q0 t0 ha ht (vp_in_nI hi hn) hdg (by rw [e1]; exact kk H locs ls hP hD hS hl)
theorem tw_bast (C : Cx p s m args meth c D A nL cc own tys ret) (q0 t0 : Nat) {cA : ClassId} {n a i v : Nat} {f : Nat → Nat} {ws' : va_W} (ha : ws[q0]? = some (a, .inl (cA, n, .inl (nf f)))) (ht : tys[t0]? = some (cA, .byte)) (hn : n < 2 ^ 31) (hw : ws.set q0 (a, .inl (cA, n, .inl (nf (updN f i v)))) = ws') (hdg : decode cc pc = .ok (.bastore, 1)) (hi : i < n) (hv : v < 128) (kk : TW p l e R s m args below meth c cells slots Q D A nL ws' (pc + 1) lv st) : TW p l e R s m args below meth c cells slots Q D A nL ws pc lv (.int (nI v) :: .int (nI i) :: .ref a :: st) := by
  intro H locs ls hP hD hS hl
  have e1 : upd (nf f) (nI i).toNatClampNeg (vp_nar .byte (nI v)) = nf (updN f i v) := by rw [nI_clamp (Nat.lt_trans hi hn), nI_nar hv, nf_upd]
  refine va_bast C.1 C.2.1 C.2.2.2.2.2.2.1 hP hD hS q0 t0 ha ht (vp_in_nI hi hn) hdg (fun H locs hP hD hS => ?_)
  rw [e1, hw] at hP hD
  exact kk H locs ls hP hD hS hl
theorem tw_iast (C : Cx p s m args meth c D A nL cc own tys ret) (q0 t0 : Nat) {cA : ClassId} {n a i : Nat} {v : Int32} {f : Nat → Int32} {ws' : va_W} (ha : ws[q0]? = some (a, .inl (cA, n, .inl f))) (ht : tys[t0]? = some (cA, .int)) (hn : n < 2 ^ 31) (hw : ws.set q0 (a, .inl (cA, n, .inl (upd f i v))) = ws') (hdg : decode cc pc = .ok (.iastore, 1)) (hi : i < n) (kk : TW p l e R s m args below meth c cells slots Q D A nL ws' (pc + 1) lv st) : TW p l e R s m args below meth c cells slots Q D A nL ws pc lv (.int v :: .int (nI i) :: .ref a :: st) := by
  intro H locs ls hP hD hS hl
  have e1 : upd f (nI i).toNatClampNeg v = upd f i v := by rw [nI_clamp (Nat.lt_trans hi hn)]
  refine va_iast C.1 C.2.1 C.2.2.2.2.2.2.1 hP hD hS q0 t0 ha ht (vp_in_nI hi hn) hdg (fun H locs hP hD hS => ?_)
  rw [e1, hw] at hP hD
  exact kk H locs ls hP hD hS hl
/-- the end of a contract: an int, or nothing -/
abbrev Bq (D : va_G) (tys : List (ClassId × FieldType)) (A : Nat → Prop) {S : Type} (wsf : S → va_W) : S → State → Prop := fun u t => va_P D vwCl (wsf u) t.heap ∧ va_K D vwCl tys t ∧ va_D A (wsf u)
theorem tw_iret {ty : FieldType} (C : Cx p s m args meth c D A nL cc own tys (some ty)) {S : Type} {post : Int32 → S → Prop} {wsf : S → va_W} {r : Int32} (u : S) (hdg : decode cc pc = .ok (.ireturn, 1)) (hn : narrow ty (.int r) = .int r) (hw : ws = wsf u) (hp : post r u) : TW p l e R s m args below meth c cells slots (MQ below (va_Qi post (Bq D tys A wsf) A) args s cells slots A) D A nL ws pc lv [.int r] := by
  intro H locs ls hP hD hS hl
  obtain ⟨hx, hb, -, -, -, -, hK, hlocks, hr⟩ := C
  exact W.zret (v := r) hx hb hr hn (fun t ht hW => ⟨⟨r, u, rfl, hp, by rw [ht]; exact hw ▸ hP, va_K.moved hW.alike hK, hw ▸ hD⟩, hS.F ht⟩) hS.2.2 hdg hlocks
theorem tw_vret (C : Cx p s m args meth c D A nL cc own tys none) {S : Type} {post : S → Prop} {wsf : S → va_W} (u : S) (hdg : decode cc pc = .ok (.return_, 1)) (hw : ws = wsf u) (hp : post u) : TW p l e R s m args below meth c cells slots (MQ below (va_Qv post (Bq D tys A wsf) A) args s cells slots A) D A nL ws pc lv [] := by
  intro H locs ls hP hD hS hl
  obtain ⟨hx, hb, -, -, -, -, hK, hlocks, hr⟩ := C
  exact W.vret hx hb hr (fun t ht hW => ⟨⟨u, rfl, hp, by rw [ht]; exact hw ▸ hP, va_K.moved hW.alike hK, hw ▸ hD⟩, hS.F ht⟩) hS.2.2 hdg hlocks
end TWF
/-- the contracts: an int (or boolean) is answered, nothing is answered; mc = ms = 0 -/
def TMi (l : Launch) (y : MethodName) (bytes : ByteArray) (maxL : Nat) (ret : Option FieldType) (d : Nat) (D : va_G) (tys : List (ClassId × FieldType)) (av : List Value) (ws0 : va_W) {S : Type} (wsf : S → va_W) (post : Int32 → S → Prop) : Prop :=
  ∀ sz : Nat, Met l y (ws_ y bytes maxL ret) (rmD d) (va_Pc av (fun U => U.heap.size = sz ∧ va_P D vwCl ws0 U.heap ∧ va_K D vwCl tys U ∧ va_D (fun _ => True) ws0)) (va_Qi post (Bq D tys (va_A ws0 sz) wsf) (va_A ws0 sz)) 0 0 (va_A ws0 sz)
def TMv (l : Launch) (y : MethodName) (bytes : ByteArray) (maxL : Nat) (d : Nat) (D : va_G) (tys : List (ClassId × FieldType)) (av : List Value) (ws0 : va_W) {S : Type} (wsf : S → va_W) (post : S → Prop) : Prop :=
  ∀ sz : Nat, Met l y (ws_ y bytes maxL none) (rmD d) (va_Pc av (fun U => U.heap.size = sz ∧ va_P D vwCl ws0 U.heap ∧ va_K D vwCl tys U ∧ va_D (fun _ => True) ws0)) (va_Qv post (Bq D tys (va_A ws0 sz) wsf) (va_A ws0 sz)) 0 0 (va_A ws0 sz)
theorem TMi.of {l : Launch} {y : MethodName} {bytes : ByteArray} {maxL : Nat} {ret : Option FieldType} {d : Nat} {D : va_G} {tys : List (ClassId × FieldType)} {av : List Value} {ws0 : va_W} {S : Type} {wsf : S → va_W} {post : Int32 → S → Prop} (hy : plainName y.cls = true) (hlen : (lg_sl av).length ≤ maxL)
    (h : ∀ (p : Program) (e : Env) (s : State) (m : MethodId) (below : List Frame) (meth : Method) (c : Code) (A : Nat → Prop), Cx p s m av.toArray meth c D A maxL bytes y.cls tys ret → TW p l e (rmD d) s m av.toArray below meth c 0 0 (MQ below (va_Qi post (Bq D tys A wsf) A) av.toArray s 0 0 A) D A maxL ws0 0 (lv_args 0 av) []) : TMi l y bytes maxL ret d D tys av ws0 wsf post := by
  intro sz
  refine Met.ofW (cc := bytes) (maxL := maxL) (ret := ret) hy rfl ?_
  intro p e s m args below meth c s₁ B hml hv
  obtain ⟨rfl, hsz, hP, hK, hD0⟩ := hv
  have hts := atoms_spec (ws := ws_ y bytes maxL ret) B.pre
  have hts : ∀ w ∈ lw_all, w.before _ s = true := fun w h => hts w (List.mem_cons_of_mem _ h)
  subst hsz
  have hD := hD0.self (sz := s.heap.size)
  generalize hAe : va_A ws0 s.heap.size = A at hD ⊢
  have hA : ∀ q : Nat, s.heap.size ≤ q → A q := fun q h => by rw [← hAe]; exact Or.inr h
  have hl := lv_entry av (n := maxL) hlen
  rw [lg_entry_eq]
  exact h p e s m below meth c A ⟨B.exec, B.bytes, hml, findClass_of_methodNamed B.named, hts, hA, hK, B.notSynchronized, B.returns⟩ _ _ _ hP hD va_S.rf hl
theorem TMv.of {l : Launch} {y : MethodName} {bytes : ByteArray} {maxL : Nat} {d : Nat} {D : va_G} {tys : List (ClassId × FieldType)} {av : List Value} {ws0 : va_W} {S : Type} {wsf : S → va_W} {post : S → Prop} (hy : plainName y.cls = true) (hlen : (lg_sl av).length ≤ maxL)
    (h : ∀ (p : Program) (e : Env) (s : State) (m : MethodId) (below : List Frame) (meth : Method) (c : Code) (A : Nat → Prop), Cx p s m av.toArray meth c D A maxL bytes y.cls tys none → TW p l e (rmD d) s m av.toArray below meth c 0 0 (MQ below (va_Qv post (Bq D tys A wsf) A) av.toArray s 0 0 A) D A maxL ws0 0 (lv_args 0 av) []) : TMv l y bytes maxL d D tys av ws0 wsf post := by
  intro sz
  refine Met.ofW (cc := bytes) (maxL := maxL) (ret := none) hy rfl ?_
  intro p e s m args below meth c s₁ B hml hv
  obtain ⟨rfl, hsz, hP, hK, hD0⟩ := hv
  have hts := atoms_spec (ws := ws_ y bytes maxL none) B.pre
  have hts : ∀ w ∈ lw_all, w.before _ s = true := fun w h => hts w (List.mem_cons_of_mem _ h)
  subst hsz
  have hD := hD0.self (sz := s.heap.size)
  generalize hAe : va_A ws0 s.heap.size = A at hD ⊢
  have hA : ∀ q : Nat, s.heap.size ≤ q → A q := fun q h => by rw [← hAe]; exact Or.inr h
  have hl := lv_entry av (n := maxL) hlen
  rw [lg_entry_eq]
  exact h p e s m below meth c A ⟨B.exec, B.bytes, hml, findClass_of_methodNamed B.named, hts, hA, hK, B.notSynchronized, B.returns⟩ _ _ _ hP hD va_S.rf hl
section TWL
variable {p : Program} {l : Launch} {e : Env} {R : Room} {s : State} {m : MethodId} {args : Array Value} {below : List Frame} {meth : Method} {c : Code} {cells slots : Nat} {Q : State → Prop} {D : va_G} {A : Nat → Prop} {nL : Nat} {ws : va_W} {pc : Nat} {lv : List (Nat × Value)} {st : List Value}
variable {cc : ByteArray} {own : String} {tys : List (ClassId × FieldType)} {ret : Option FieldType}
theorem tw_loop {α : Type} (Wf : α → va_W) (Lf : α → List (Nat × Value)) (I : α → Prop) (μ : α → Nat) (step : ∀ a : α, I a → (∀ b : α, I b → μ b < μ a → TW p l e R s m args below meth c cells slots Q D A nL (Wf b) pc (Lf b) st) → TW p l e R s m args below meth c cells slots Q D A nL (Wf a) pc (Lf a) st) (a : α) (ha : I a) : TW p l e R s m args below meth c cells slots Q D A nL (Wf a) pc (Lf a) st := by
  have key : ∀ (n : Nat) (a : α), I a → μ a < n → TW p l e R s m args below meth c cells slots Q D A nL (Wf a) pc (Lf a) st := by
    intro n
    induction n with
    | zero => intro a _ h; exact absurd h (Nat.not_lt_zero _)
    | succ n ih => intro a ha h; exact step a ha (fun b hb hlt => ih b hb (by omega))
  exact key (μ a + 1) a ha (Nat.lt_succ_self _)
theorem tw_pick (ks : List Nat) {lv' : List (Nat × Value)} (h : lv_pick lv ks = lv') (k : TW p l e R s m args below meth c cells slots Q D A nL ws pc lv' st) : TW p l e R s m args below meth c cells slots Q D A nL ws pc lv st :=
  fun H locs ls hP hD hS hl => k H locs ls hP hD hS (lv_sub hl ks h)
end TWL
theorem va_freeA {A0 : Nat → Prop} {ws : va_W} {H0 H : Heap} {locs : List Loc} (hD : va_D A0 ws) (hS : va_S A0 H0 H locs) (hA : ∀ q, H0.size ≤ q → A0 q) : ∀ q, va_A ws H.size q → A0 q := by
  intro q h
  rcases h with ⟨k, e, h⟩ | h
  · exact hD.2 k _ h
  · exact hA q (Nat.le_trans hS.1 h)
section TWC
variable {p : Program} {l : Launch} {e : Env} {R : Room} {s : State} {m : MethodId} {args : Array Value} {below : List Frame} {meth : Method} {c : Code} {cells slots : Nat} {Q : State → Prop} {D : va_G} {A : Nat → Prop} {nL : Nat} {ws : va_W} {pc : Nat} {lv : List (Nat × Value)} {st : List Value}
variable {cc : ByteArray} {own : String} {tys : List (ClassId × FieldType)} {ret : Option FieldType}
variable {y : MethodName} {bytes : ByteArray} {maxL d dc index a ci : Nat} {rt : Option FieldType} {As : List Value} {fs : List Value} {q : vw_C} {S : Type} {wsf : S → va_W}
theorem tw_calli (C : Cx p s m args meth c D A nL cc own tys ret) {post : Int32 → S → Prop} (hM : TMi l y bytes maxL rt dc D tys (.ref a :: As) ws wsf post) (he : ws[0]? = some (a, .inr (ci, fs))) (hc : vwCl[ci]? = some q) (hq : q.1 = y.cls) (h1 : Cond.methodLink own index y ∈ lw_all) (h2 : Cond.instanceMethod y ∈ lw_all) (h3 : Cond.selects y.cls y y ∈ lw_all) (h4 : Cond.initialized y.cls ∈ lw_all) (h5 : Cond.code y bytes maxL rt ∈ lw_all) (hd : y.cls = y.cls ∧ y.cls ≠ "java/lang/invoke/MethodHandle" ∧ y.cls ≠ "java/lang/invoke/VarHandle" ∧ (parseMethodDescriptor y.desc).map (fun d => d.parameters.length) = some As.length) (hR : dc + 1 ≤ R.frames ∧ 8 + (maxL + 11) + 30 * dc ≤ R.locals) (hC : cells ≤ R.cells ∧ slots ≤ R.slots) {st0 : List Value} (hst : st0 = As.reverse ++ .ref a :: st) (hrm : (st.map fun v => v.category).sum ≤ 8) (hdg : decode cc pc = .ok (.invokevirtual index, 3))
    (kk : ∀ (r : Int32) (u : S), post r u → TW p l e R s m args below meth c cells slots Q D A nL (wsf u) (pc + 3) lv (.int r :: st)) : TW p l e R s m args below meth c cells slots Q D A nL ws pc lv st0 := by
  subst hst
  intro H locs ls hP hD hS hl
  obtain ⟨hx, hb, hml, hown, hts, hA, hK, hlocks, hr⟩ := C
  have hFc := va_freeA hD hS hA
  refine va_calli (va_runV (As := As) (rest := st) ⟨hx, hb, hml, hown, hts⟩ (hM H.size) (cwV As.length hts (lw_V h1 h2 h3 h4 h5) rfl rfl rfl hd hR) ⟨fun a U g mk q => by obtain ⟨q0, q1, qP, qK, qD⟩ := q; exact ⟨q0, q1, qP, va_K.moved (u := U) (U := U.calling g mk a) (Vm.Alike.refl U.vm) qK, qD⟩, hq ▸ va_recv hK hP (ci := ci) (q0 := 0) hc he, fun U hU hW => ⟨rfl, by rw [hU], by rw [hU]; exact hP, va_K.moved hW.alike hK, hD.weaken (fun _ _ _ _ => trivial)⟩⟩ rfl rfl hl.1 rfl (lv_room hrm) hdg hC) hS (fun q _ h => hFc q h) hFc (fun r u t H1 locs ht hvm hw1 hB hz1 hk1 hS => ?_)
  obtain ⟨hP1, -, hD1⟩ := hB
  rw [ht] at hP1
  exact kk r u hw1 H1 locs ls hP1 (hD1.weaken (fun _ q _ h => hFc q.1 h)) hS hl
theorem tw_callv (C : Cx p s m args meth c D A nL cc own tys ret) {post : S → Prop} (hM : TMv l y bytes maxL dc D tys (.ref a :: As) ws wsf post) (he : ws[0]? = some (a, .inr (ci, fs))) (hc : vwCl[ci]? = some q) (hq : q.1 = y.cls) (h1 : Cond.methodLink own index y ∈ lw_all) (h2 : Cond.instanceMethod y ∈ lw_all) (h3 : Cond.selects y.cls y y ∈ lw_all) (h4 : Cond.initialized y.cls ∈ lw_all) (h5 : Cond.code y bytes maxL none ∈ lw_all) (hd : y.cls = y.cls ∧ y.cls ≠ "java/lang/invoke/MethodHandle" ∧ y.cls ≠ "java/lang/invoke/VarHandle" ∧ (parseMethodDescriptor y.desc).map (fun d => d.parameters.length) = some As.length) (hR : dc + 1 ≤ R.frames ∧ 8 + (maxL + 11) + 30 * dc ≤ R.locals) (hC : cells ≤ R.cells ∧ slots ≤ R.slots) {st0 : List Value} (hst : st0 = As.reverse ++ .ref a :: st) (hrm : (st.map fun v => v.category).sum ≤ 8) (hdg : decode cc pc = .ok (.invokevirtual index, 3))
    (kk : ∀ (u : S), post u → TW p l e R s m args below meth c cells slots Q D A nL (wsf u) (pc + 3) lv st) : TW p l e R s m args below meth c cells slots Q D A nL ws pc lv st0 := by
  subst hst
  intro H locs ls hP hD hS hl
  obtain ⟨hx, hb, hml, hown, hts, hA, hK, hlocks, hr⟩ := C
  have hFc := va_freeA hD hS hA
  refine va_callv (va_runV (As := As) (rest := st) ⟨hx, hb, hml, hown, hts⟩ (hM H.size) (cwV As.length hts (lw_V h1 h2 h3 h4 h5) rfl rfl rfl hd hR) ⟨fun a U g mk q => by obtain ⟨q0, q1, qP, qK, qD⟩ := q; exact ⟨q0, q1, qP, va_K.moved (u := U) (U := U.calling g mk a) (Vm.Alike.refl U.vm) qK, qD⟩, hq ▸ va_recv hK hP (ci := ci) (q0 := 0) hc he, fun U hU hW => ⟨rfl, by rw [hU], by rw [hU]; exact hP, va_K.moved hW.alike hK, hD.weaken (fun _ _ _ _ => trivial)⟩⟩ rfl rfl hl.1 rfl (lv_room hrm) hdg hC) hS (fun q _ h => hFc q h) hFc (fun u t H1 locs ht hvm hw1 hB hz1 hk1 hS => ?_)
  obtain ⟨hP1, -, hD1⟩ := hB
  rw [ht] at hP1
  exact kk u hw1 H1 locs ls hP1 (hD1.weaken (fun _ q _ h => hFc q.1 h)) hS hl
end TWC
end
section
set_option maxRecDepth 100000
/-! THE TREE: its state, its world, its rows -/
abbrev St : Type := (Nat → Nat) × (Nat → Nat) × (Nat → Nat) × (Nat → Int32) × (Nat → Nat) × (Nat → Nat) × (Nat → Nat) × (Nat → Nat) × (Nat) × (Nat) × (Nat)
abbrev xlu (x : St) : Nat → Nat := x.1
abbrev xls (x : St) : Nat → Nat := x.2.1
abbrev xlk (x : St) : Nat → Nat := x.2.2.1
abbrev xlv (x : St) : Nat → Int32 := x.2.2.2.1
abbrev xru (x : St) : Nat → Nat := x.2.2.2.2.1
abbrev xrs (x : St) : Nat → Nat := x.2.2.2.2.2.1
abbrev xrl (x : St) : Nat → Nat := x.2.2.2.2.2.2.1
abbrev xvr (x : St) : Nat → Nat := x.2.2.2.2.2.2.2.1
abbrev xwk (x : St) : Nat := x.2.2.2.2.2.2.2.2.1
abbrev xfk (x : St) : Nat := x.2.2.2.2.2.2.2.2.2.1
abbrev xla (x : St) : Nat := x.2.2.2.2.2.2.2.2.2.2
abbrev slu (x : St) (g : Nat → Nat) : St := (g, xls x, xlk x, xlv x, xru x, xrs x, xrl x, xvr x, xwk x, xfk x, xla x)
abbrev sls (x : St) (g : Nat → Nat) : St := (xlu x, g, xlk x, xlv x, xru x, xrs x, xrl x, xvr x, xwk x, xfk x, xla x)
abbrev slk (x : St) (g : Nat → Nat) : St := (xlu x, xls x, g, xlv x, xru x, xrs x, xrl x, xvr x, xwk x, xfk x, xla x)
abbrev slv (x : St) (g : Nat → Int32) : St := (xlu x, xls x, xlk x, g, xru x, xrs x, xrl x, xvr x, xwk x, xfk x, xla x)
abbrev sru (x : St) (g : Nat → Nat) : St := (xlu x, xls x, xlk x, xlv x, g, xrs x, xrl x, xvr x, xwk x, xfk x, xla x)
abbrev srs (x : St) (g : Nat → Nat) : St := (xlu x, xls x, xlk x, xlv x, xru x, g, xrl x, xvr x, xwk x, xfk x, xla x)
abbrev srl (x : St) (g : Nat → Nat) : St := (xlu x, xls x, xlk x, xlv x, xru x, xrs x, g, xvr x, xwk x, xfk x, xla x)
abbrev svr (x : St) (g : Nat → Nat) : St := (xlu x, xls x, xlk x, xlv x, xru x, xrs x, xrl x, g, xwk x, xfk x, xla x)
abbrev swk (x : St) (g : Nat) : St := (xlu x, xls x, xlk x, xlv x, xru x, xrs x, xrl x, xvr x, g, xfk x, xla x)
abbrev sfk (x : St) (g : Nat) : St := (xlu x, xls x, xlk x, xlv x, xru x, xrs x, xrl x, xvr x, xwk x, g, xla x)
abbrev sla (x : St) (g : Nat) : St := (xlu x, xls x, xlk x, xlv x, xru x, xrs x, xrl x, xvr x, xwk x, xfk x, g)
abbrev fT (ad : Nat → Nat) (x : St) : List Value := [.ref (ad 1), .ref (ad 2), .ref (ad 3), .ref (ad 4), .ref (ad 5), .ref (ad 6), .ref (ad 7), .int (nI (xwk x)), .ref (ad 8), .int (nI (xfk x)), .int (nI (xla x))]
def wT (ad : Nat → Nat) (dB dI : ClassId) (x : St) : va_W := [(ad 0, .inr (0, fT ad x)), (ad 1, .inl (dB, 96, .inl (nf (xlu x)))), (ad 2, .inl (dB, 96, .inl (nf (xls x)))), (ad 3, .inl (dB, 480, .inl (nf (xlk x)))), (ad 4, .inl (dI, 480, .inl (xlv x))), (ad 5, .inl (dB, 8, .inl (nf (xru x)))), (ad 6, .inl (dB, 8, .inl (nf (xrs x)))), (ad 7, .inl (dB, 136, .inl (nf (xrl x)))), (ad 8, .inl (dB, 4, .inl (nf (xvr x))))]
abbrev tyT (dB dI : ClassId) : List (ClassId × FieldType) := [(dB, .byte), (dI, .int)]
section TTR
variable {p : Program} {l : Launch} {e : Env} {R : Room} {s : State} {m : MethodId} {args : Array Value} {below : List Frame} {meth : Method} {c : Code} {cells slots : Nat} {Q : State → Prop} {D : va_G} {A : Nat → Prop} {nL : Nat} {pc : Nat} {lv : List (Nat × Value)} {st : List Value}
variable {cc : ByteArray} {ret : Option FieldType} {ad : Nat → Nat} {dB dI : ClassId} {x : St}
theorem tt_get_lu (C : Cx p s m args meth c D A nL cc RX0 (tyT dB dI) ret) (hdg : decode cc pc = .ok (.getfield 7, 3)) (kk : TW p l e R s m args below meth c cells slots Q D A nL (wT ad dB dI x) (pc + 3) lv (.ref (ad 1) :: st)) : TW p l e R s m args below meth c cells slots Q D A nL (wT ad dB dI x) pc lv (.ref (ad 0) :: st) :=
  fun H locs ls hP hD hS hl => va_get (ci := 0) (v := .ref (ad 1)) (C := RX0) (T := TX0) (N := 11) C.1 C.2.1 C.2.2.2.2.1 in_X0 C.2.2.2.1 C.2.2.2.2.2.2.1 hP 0 rfl rfl 0 (by decide) (C.2.2.2.2.1 _ q32) (fun _ h9 => h9) rfl hdg (kk H locs ls hP hD hS hl)
theorem tt_get_ls (C : Cx p s m args meth c D A nL cc RX0 (tyT dB dI) ret) (hdg : decode cc pc = .ok (.getfield 13, 3)) (kk : TW p l e R s m args below meth c cells slots Q D A nL (wT ad dB dI x) (pc + 3) lv (.ref (ad 2) :: st)) : TW p l e R s m args below meth c cells slots Q D A nL (wT ad dB dI x) pc lv (.ref (ad 0) :: st) :=
  fun H locs ls hP hD hS hl => va_get (ci := 0) (v := .ref (ad 2)) (C := RX0) (T := TX0) (N := 11) C.1 C.2.1 C.2.2.2.2.1 in_X0 C.2.2.2.1 C.2.2.2.2.2.2.1 hP 0 rfl rfl 1 (by decide) (C.2.2.2.2.1 _ q33) (fun _ h9 => h9) rfl hdg (kk H locs ls hP hD hS hl)
theorem tt_get_lk (C : Cx p s m args meth c D A nL cc RX0 (tyT dB dI) ret) (hdg : decode cc pc = .ok (.getfield 16, 3)) (kk : TW p l e R s m args below meth c cells slots Q D A nL (wT ad dB dI x) (pc + 3) lv (.ref (ad 3) :: st)) : TW p l e R s m args below meth c cells slots Q D A nL (wT ad dB dI x) pc lv (.ref (ad 0) :: st) :=
  fun H locs ls hP hD hS hl => va_get (ci := 0) (v := .ref (ad 3)) (C := RX0) (T := TX0) (N := 11) C.1 C.2.1 C.2.2.2.2.1 in_X0 C.2.2.2.1 C.2.2.2.2.2.2.1 hP 0 rfl rfl 2 (by decide) (C.2.2.2.2.1 _ q34) (fun _ h9 => h9) rfl hdg (kk H locs ls hP hD hS hl)
theorem tt_get_lv (C : Cx p s m args meth c D A nL cc RX0 (tyT dB dI) ret) (hdg : decode cc pc = .ok (.getfield 19, 3)) (kk : TW p l e R s m args below meth c cells slots Q D A nL (wT ad dB dI x) (pc + 3) lv (.ref (ad 4) :: st)) : TW p l e R s m args below meth c cells slots Q D A nL (wT ad dB dI x) pc lv (.ref (ad 0) :: st) :=
  fun H locs ls hP hD hS hl => va_get (ci := 0) (v := .ref (ad 4)) (C := RX0) (T := TX0) (N := 11) C.1 C.2.1 C.2.2.2.2.1 in_X0 C.2.2.2.1 C.2.2.2.2.2.2.1 hP 0 rfl rfl 3 (by decide) (C.2.2.2.2.1 _ q35) (fun _ h9 => h9) rfl hdg (kk H locs ls hP hD hS hl)
theorem tt_get_ru (C : Cx p s m args meth c D A nL cc RX0 (tyT dB dI) ret) (hdg : decode cc pc = .ok (.getfield 23, 3)) (kk : TW p l e R s m args below meth c cells slots Q D A nL (wT ad dB dI x) (pc + 3) lv (.ref (ad 5) :: st)) : TW p l e R s m args below meth c cells slots Q D A nL (wT ad dB dI x) pc lv (.ref (ad 0) :: st) :=
  fun H locs ls hP hD hS hl => va_get (ci := 0) (v := .ref (ad 5)) (C := RX0) (T := TX0) (N := 11) C.1 C.2.1 C.2.2.2.2.1 in_X0 C.2.2.2.1 C.2.2.2.2.2.2.1 hP 0 rfl rfl 4 (by decide) (C.2.2.2.2.1 _ q36) (fun _ h9 => h9) rfl hdg (kk H locs ls hP hD hS hl)
theorem tt_get_rs (C : Cx p s m args meth c D A nL cc RX0 (tyT dB dI) ret) (hdg : decode cc pc = .ok (.getfield 26, 3)) (kk : TW p l e R s m args below meth c cells slots Q D A nL (wT ad dB dI x) (pc + 3) lv (.ref (ad 6) :: st)) : TW p l e R s m args below meth c cells slots Q D A nL (wT ad dB dI x) pc lv (.ref (ad 0) :: st) :=
  fun H locs ls hP hD hS hl => va_get (ci := 0) (v := .ref (ad 6)) (C := RX0) (T := TX0) (N := 11) C.1 C.2.1 C.2.2.2.2.1 in_X0 C.2.2.2.1 C.2.2.2.2.2.2.1 hP 0 rfl rfl 5 (by decide) (C.2.2.2.2.1 _ q37) (fun _ h9 => h9) rfl hdg (kk H locs ls hP hD hS hl)
theorem tt_get_rl (C : Cx p s m args meth c D A nL cc RX0 (tyT dB dI) ret) (hdg : decode cc pc = .ok (.getfield 29, 3)) (kk : TW p l e R s m args below meth c cells slots Q D A nL (wT ad dB dI x) (pc + 3) lv (.ref (ad 7) :: st)) : TW p l e R s m args below meth c cells slots Q D A nL (wT ad dB dI x) pc lv (.ref (ad 0) :: st) :=
  fun H locs ls hP hD hS hl => va_get (ci := 0) (v := .ref (ad 7)) (C := RX0) (T := TX0) (N := 11) C.1 C.2.1 C.2.2.2.2.1 in_X0 C.2.2.2.1 C.2.2.2.2.2.2.1 hP 0 rfl rfl 6 (by decide) (C.2.2.2.2.1 _ q38) (fun _ h9 => h9) rfl hdg (kk H locs ls hP hD hS hl)
theorem tt_get_wk (C : Cx p s m args meth c D A nL cc RX0 (tyT dB dI) ret) (v : Nat) (hdg : decode cc pc = .ok (.getfield 39, 3)) (hv : xwk x = v) (kk : TW p l e R s m args below meth c cells slots Q D A nL (wT ad dB dI x) (pc + 3) lv (.int (nI v) :: st)) : TW p l e R s m args below meth c cells slots Q D A nL (wT ad dB dI x) pc lv (.ref (ad 0) :: st) := by
  subst hv
  exact fun H locs ls hP hD hS hl => va_get (ci := 0) (v := .int (nI (xwk x))) (C := RX0) (T := TX0) (N := 11) C.1 C.2.1 C.2.2.2.2.1 in_X0 C.2.2.2.1 C.2.2.2.2.2.2.1 hP 0 rfl rfl 7 (by decide) (C.2.2.2.2.1 _ q39) (fun _ h9 => h9) rfl hdg (kk H locs ls hP hD hS hl)
theorem tt_put_wk (C : Cx p s m args meth c D A nL cc RX0 (tyT dB dI) ret) {n : Nat} (hdg : decode cc pc = .ok (.putfield 39, 3)) (kk : TW p l e R s m args below meth c cells slots Q D A nL (wT ad dB dI (swk x n)) (pc + 3) lv st) : TW p l e R s m args below meth c cells slots Q D A nL (wT ad dB dI x) pc lv (.int (nI n) :: .ref (ad 0) :: st) :=
  fun H locs ls hP hD hS hl => va_put (ci := 0) (v := .int (nI n)) (ty := .int) (C := RX0) (T := TX0) (N := 11) C.1 C.2.1 C.2.2.2.2.1 in_X0 tyX0 tyX0_ok nmX0 C.2.2.2.1 C.2.2.2.2.2.2.1 hP hD hS 0 rfl rfl 7 (by decide) (C.2.2.2.2.1 _ q39) (fun _ h9 => h9) rfl (by decide +kernel) rfl rfl (Nat.le_of_ble_eq_true rfl) hdg (fun H locs hP hD hS => kk H locs ls hP hD hS hl)
theorem tt_get_vr (C : Cx p s m args meth c D A nL cc RX0 (tyT dB dI) ret) (hdg : decode cc pc = .ok (.getfield 32, 3)) (kk : TW p l e R s m args below meth c cells slots Q D A nL (wT ad dB dI x) (pc + 3) lv (.ref (ad 8) :: st)) : TW p l e R s m args below meth c cells slots Q D A nL (wT ad dB dI x) pc lv (.ref (ad 0) :: st) :=
  fun H locs ls hP hD hS hl => va_get (ci := 0) (v := .ref (ad 8)) (C := RX0) (T := TX0) (N := 11) C.1 C.2.1 C.2.2.2.2.1 in_X0 C.2.2.2.1 C.2.2.2.2.2.2.1 hP 0 rfl rfl 8 (by decide) (C.2.2.2.2.1 _ q40) (fun _ h9 => h9) rfl hdg (kk H locs ls hP hD hS hl)
theorem tt_get_fk (C : Cx p s m args meth c D A nL cc RX0 (tyT dB dI) ret) (v : Nat) (hdg : decode cc pc = .ok (.getfield 35, 3)) (hv : xfk x = v) (kk : TW p l e R s m args below meth c cells slots Q D A nL (wT ad dB dI x) (pc + 3) lv (.int (nI v) :: st)) : TW p l e R s m args below meth c cells slots Q D A nL (wT ad dB dI x) pc lv (.ref (ad 0) :: st) := by
  subst hv
  exact fun H locs ls hP hD hS hl => va_get (ci := 0) (v := .int (nI (xfk x))) (C := RX0) (T := TX0) (N := 11) C.1 C.2.1 C.2.2.2.2.1 in_X0 C.2.2.2.1 C.2.2.2.2.2.2.1 hP 0 rfl rfl 9 (by decide) (C.2.2.2.2.1 _ q41) (fun _ h9 => h9) rfl hdg (kk H locs ls hP hD hS hl)
theorem tt_put_fk (C : Cx p s m args meth c D A nL cc RX0 (tyT dB dI) ret) {n : Nat} (hdg : decode cc pc = .ok (.putfield 35, 3)) (kk : TW p l e R s m args below meth c cells slots Q D A nL (wT ad dB dI (sfk x n)) (pc + 3) lv st) : TW p l e R s m args below meth c cells slots Q D A nL (wT ad dB dI x) pc lv (.int (nI n) :: .ref (ad 0) :: st) :=
  fun H locs ls hP hD hS hl => va_put (ci := 0) (v := .int (nI n)) (ty := .int) (C := RX0) (T := TX0) (N := 11) C.1 C.2.1 C.2.2.2.2.1 in_X0 tyX0 tyX0_ok nmX0 C.2.2.2.1 C.2.2.2.2.2.2.1 hP hD hS 0 rfl rfl 9 (by decide) (C.2.2.2.2.1 _ q41) (fun _ h9 => h9) rfl (by decide +kernel) rfl rfl (Nat.le_of_ble_eq_true rfl) hdg (fun H locs hP hD hS => kk H locs ls hP hD hS hl)
theorem tt_get_la (C : Cx p s m args meth c D A nL cc RX0 (tyT dB dI) ret) (v : Nat) (hdg : decode cc pc = .ok (.getfield 87, 3)) (hv : xla x = v) (kk : TW p l e R s m args below meth c cells slots Q D A nL (wT ad dB dI x) (pc + 3) lv (.int (nI v) :: st)) : TW p l e R s m args below meth c cells slots Q D A nL (wT ad dB dI x) pc lv (.ref (ad 0) :: st) := by
  subst hv
  exact fun H locs ls hP hD hS hl => va_get (ci := 0) (v := .int (nI (xla x))) (C := RX0) (T := TX0) (N := 11) C.1 C.2.1 C.2.2.2.2.1 in_X0 C.2.2.2.1 C.2.2.2.2.2.2.1 hP 0 rfl rfl 10 (by decide) (C.2.2.2.2.1 _ q42) (fun _ h9 => h9) rfl hdg (kk H locs ls hP hD hS hl)
theorem tt_put_la (C : Cx p s m args meth c D A nL cc RX0 (tyT dB dI) ret) {n : Nat} (hdg : decode cc pc = .ok (.putfield 87, 3)) (kk : TW p l e R s m args below meth c cells slots Q D A nL (wT ad dB dI (sla x n)) (pc + 3) lv st) : TW p l e R s m args below meth c cells slots Q D A nL (wT ad dB dI x) pc lv (.int (nI n) :: .ref (ad 0) :: st) :=
  fun H locs ls hP hD hS hl => va_put (ci := 0) (v := .int (nI n)) (ty := .int) (C := RX0) (T := TX0) (N := 11) C.1 C.2.1 C.2.2.2.2.1 in_X0 tyX0 tyX0_ok nmX0 C.2.2.2.1 C.2.2.2.2.2.2.1 hP hD hS 0 rfl rfl 10 (by decide) (C.2.2.2.2.1 _ q42) (fun _ h9 => h9) rfl (by decide +kernel) rfl rfl (Nat.le_of_ble_eq_true rfl) hdg (fun H locs hP hD hS => kk H locs ls hP hD hS hl)
theorem tt_ld_lu (C : Cx p s m args meth c D A nL cc RX0 (tyT dB dI) ret) {i : Nat} (v : Nat) (hdg : decode cc pc = .ok (.baload, 1)) (hi : i < 96) (hv : xlu x i = v) (kk : TW p l e R s m args below meth c cells slots Q D A nL (wT ad dB dI x) (pc + 1) lv (.int (nI v) :: st)) : TW p l e R s m args below meth c cells slots Q D A nL (wT ad dB dI x) pc lv (.int (nI i) :: .ref (ad 1) :: st) :=
  tw_bald C 1 0 v rfl rfl (by decide) hdg hi hv kk
theorem tt_st_lu (C : Cx p s m args meth c D A nL cc RX0 (tyT dB dI) ret) {i v : Nat} (hdg : decode cc pc = .ok (.bastore, 1)) (hi : i < 96) (hv : v < 128) (kk : TW p l e R s m args below meth c cells slots Q D A nL (wT ad dB dI (slu x (updN (xlu x) i v))) (pc + 1) lv st) : TW p l e R s m args below meth c cells slots Q D A nL (wT ad dB dI x) pc lv (.int (nI v) :: .int (nI i) :: .ref (ad 1) :: st) :=
  tw_bast C 1 0 rfl rfl (by decide) rfl hdg hi hv kk
theorem tt_ld_ls (C : Cx p s m args meth c D A nL cc RX0 (tyT dB dI) ret) {i : Nat} (v : Nat) (hdg : decode cc pc = .ok (.baload, 1)) (hi : i < 96) (hv : xls x i = v) (kk : TW p l e R s m args below meth c cells slots Q D A nL (wT ad dB dI x) (pc + 1) lv (.int (nI v) :: st)) : TW p l e R s m args below meth c cells slots Q D A nL (wT ad dB dI x) pc lv (.int (nI i) :: .ref (ad 2) :: st) :=
  tw_bald C 2 0 v rfl rfl (by decide) hdg hi hv kk
theorem tt_st_ls (C : Cx p s m args meth c D A nL cc RX0 (tyT dB dI) ret) {i v : Nat} (hdg : decode cc pc = .ok (.bastore, 1)) (hi : i < 96) (hv : v < 128) (kk : TW p l e R s m args below meth c cells slots Q D A nL (wT ad dB dI (sls x (updN (xls x) i v))) (pc + 1) lv st) : TW p l e R s m args below meth c cells slots Q D A nL (wT ad dB dI x) pc lv (.int (nI v) :: .int (nI i) :: .ref (ad 2) :: st) :=
  tw_bast C 2 0 rfl rfl (by decide) rfl hdg hi hv kk
theorem tt_ld_lk (C : Cx p s m args meth c D A nL cc RX0 (tyT dB dI) ret) {i : Nat} (v : Nat) (hdg : decode cc pc = .ok (.baload, 1)) (hi : i < 480) (hv : xlk x i = v) (kk : TW p l e R s m args below meth c cells slots Q D A nL (wT ad dB dI x) (pc + 1) lv (.int (nI v) :: st)) : TW p l e R s m args below meth c cells slots Q D A nL (wT ad dB dI x) pc lv (.int (nI i) :: .ref (ad 3) :: st) :=
  tw_bald C 3 0 v rfl rfl (by decide) hdg hi hv kk
theorem tt_st_lk (C : Cx p s m args meth c D A nL cc RX0 (tyT dB dI) ret) {i v : Nat} (hdg : decode cc pc = .ok (.bastore, 1)) (hi : i < 480) (hv : v < 128) (kk : TW p l e R s m args below meth c cells slots Q D A nL (wT ad dB dI (slk x (updN (xlk x) i v))) (pc + 1) lv st) : TW p l e R s m args below meth c cells slots Q D A nL (wT ad dB dI x) pc lv (.int (nI v) :: .int (nI i) :: .ref (ad 3) :: st) :=
  tw_bast C 3 0 rfl rfl (by decide) rfl hdg hi hv kk
theorem tt_ld_lv (C : Cx p s m args meth c D A nL cc RX0 (tyT dB dI) ret) {i : Nat} (v : Int32) (hdg : decode cc pc = .ok (.iaload, 1)) (hi : i < 480) (hv : xlv x i = v) (kk : TW p l e R s m args below meth c cells slots Q D A nL (wT ad dB dI x) (pc + 1) lv (.int v :: st)) : TW p l e R s m args below meth c cells slots Q D A nL (wT ad dB dI x) pc lv (.int (nI i) :: .ref (ad 4) :: st) :=
  tw_iald C 4 1 v rfl rfl (by decide) hdg hi hv kk
theorem tt_st_lv (C : Cx p s m args meth c D A nL cc RX0 (tyT dB dI) ret) {i : Nat} {v : Int32} (hdg : decode cc pc = .ok (.iastore, 1)) (hi : i < 480) (kk : TW p l e R s m args below meth c cells slots Q D A nL (wT ad dB dI (slv x (upd (xlv x) i v))) (pc + 1) lv st) : TW p l e R s m args below meth c cells slots Q D A nL (wT ad dB dI x) pc lv (.int v :: .int (nI i) :: .ref (ad 4) :: st) :=
  tw_iast C 4 1 rfl rfl (by decide) rfl hdg hi kk
theorem tt_ld_ru (C : Cx p s m args meth c D A nL cc RX0 (tyT dB dI) ret) {i : Nat} (v : Nat) (hdg : decode cc pc = .ok (.baload, 1)) (hi : i < 8) (hv : xru x i = v) (kk : TW p l e R s m args below meth c cells slots Q D A nL (wT ad dB dI x) (pc + 1) lv (.int (nI v) :: st)) : TW p l e R s m args below meth c cells slots Q D A nL (wT ad dB dI x) pc lv (.int (nI i) :: .ref (ad 5) :: st) :=
  tw_bald C 5 0 v rfl rfl (by decide) hdg hi hv kk
theorem tt_st_ru (C : Cx p s m args meth c D A nL cc RX0 (tyT dB dI) ret) {i v : Nat} (hdg : decode cc pc = .ok (.bastore, 1)) (hi : i < 8) (hv : v < 128) (kk : TW p l e R s m args below meth c cells slots Q D A nL (wT ad dB dI (sru x (updN (xru x) i v))) (pc + 1) lv st) : TW p l e R s m args below meth c cells slots Q D A nL (wT ad dB dI x) pc lv (.int (nI v) :: .int (nI i) :: .ref (ad 5) :: st) :=
  tw_bast C 5 0 rfl rfl (by decide) rfl hdg hi hv kk
theorem tt_ld_rs (C : Cx p s m args meth c D A nL cc RX0 (tyT dB dI) ret) {i : Nat} (v : Nat) (hdg : decode cc pc = .ok (.baload, 1)) (hi : i < 8) (hv : xrs x i = v) (kk : TW p l e R s m args below meth c cells slots Q D A nL (wT ad dB dI x) (pc + 1) lv (.int (nI v) :: st)) : TW p l e R s m args below meth c cells slots Q D A nL (wT ad dB dI x) pc lv (.int (nI i) :: .ref (ad 6) :: st) :=
  tw_bald C 6 0 v rfl rfl (by decide) hdg hi hv kk
theorem tt_st_rs (C : Cx p s m args meth c D A nL cc RX0 (tyT dB dI) ret) {i v : Nat} (hdg : decode cc pc = .ok (.bastore, 1)) (hi : i < 8) (hv : v < 128) (kk : TW p l e R s m args below meth c cells slots Q D A nL (wT ad dB dI (srs x (updN (xrs x) i v))) (pc + 1) lv st) : TW p l e R s m args below meth c cells slots Q D A nL (wT ad dB dI x) pc lv (.int (nI v) :: .int (nI i) :: .ref (ad 6) :: st) :=
  tw_bast C 6 0 rfl rfl (by decide) rfl hdg hi hv kk
theorem tt_ld_rl (C : Cx p s m args meth c D A nL cc RX0 (tyT dB dI) ret) {i : Nat} (v : Nat) (hdg : decode cc pc = .ok (.baload, 1)) (hi : i < 136) (hv : xrl x i = v) (kk : TW p l e R s m args below meth c cells slots Q D A nL (wT ad dB dI x) (pc + 1) lv (.int (nI v) :: st)) : TW p l e R s m args below meth c cells slots Q D A nL (wT ad dB dI x) pc lv (.int (nI i) :: .ref (ad 7) :: st) :=
  tw_bald C 7 0 v rfl rfl (by decide) hdg hi hv kk
theorem tt_st_rl (C : Cx p s m args meth c D A nL cc RX0 (tyT dB dI) ret) {i v : Nat} (hdg : decode cc pc = .ok (.bastore, 1)) (hi : i < 136) (hv : v < 128) (kk : TW p l e R s m args below meth c cells slots Q D A nL (wT ad dB dI (srl x (updN (xrl x) i v))) (pc + 1) lv st) : TW p l e R s m args below meth c cells slots Q D A nL (wT ad dB dI x) pc lv (.int (nI v) :: .int (nI i) :: .ref (ad 7) :: st) :=
  tw_bast C 7 0 rfl rfl (by decide) rfl hdg hi hv kk
theorem tt_ld_vr (C : Cx p s m args meth c D A nL cc RX0 (tyT dB dI) ret) {i : Nat} (v : Nat) (hdg : decode cc pc = .ok (.baload, 1)) (hi : i < 4) (hv : xvr x i = v) (kk : TW p l e R s m args below meth c cells slots Q D A nL (wT ad dB dI x) (pc + 1) lv (.int (nI v) :: st)) : TW p l e R s m args below meth c cells slots Q D A nL (wT ad dB dI x) pc lv (.int (nI i) :: .ref (ad 8) :: st) :=
  tw_bald C 8 0 v rfl rfl (by decide) hdg hi hv kk
theorem tt_st_vr (C : Cx p s m args meth c D A nL cc RX0 (tyT dB dI) ret) {i v : Nat} (hdg : decode cc pc = .ok (.bastore, 1)) (hi : i < 4) (hv : v < 128) (kk : TW p l e R s m args below meth c cells slots Q D A nL (wT ad dB dI (svr x (updN (xvr x) i v))) (pc + 1) lv st) : TW p l e R s m args below meth c cells slots Q D A nL (wT ad dB dI x) pc lv (.int (nI v) :: .int (nI i) :: .ref (ad 8) :: st) :=
  tw_bast C 8 0 rfl rfl (by decide) rfl hdg hi hv kk
theorem tt_calli0 (C : Cx p s m args meth c D A nL cc RX0 (tyT dB dI) ret) {y : MethodName} {bytes : ByteArray} {maxL dc index : Nat} {rt : Option FieldType} {post : Int32 → St → Prop} (hM : TMi l y bytes maxL rt dc D (tyT dB dI) (.ref (ad 0) :: []) (wT ad dB dI x) (wT ad dB dI) post) (hq : RX0 = y.cls) (h1 : Cond.methodLink RX0 index y ∈ lw_all) (h2 : Cond.instanceMethod y ∈ lw_all) (h3 : Cond.selects y.cls y y ∈ lw_all) (h5 : Cond.code y bytes maxL rt ∈ lw_all) (hd : y.cls = y.cls ∧ y.cls ≠ "java/lang/invoke/MethodHandle" ∧ y.cls ≠ "java/lang/invoke/VarHandle" ∧ (parseMethodDescriptor y.desc).map (fun d => d.parameters.length) = some 0) (hR : dc + 1 ≤ R.frames ∧ 8 + (maxL + 11) + 30 * dc ≤ R.locals) (hC : cells ≤ R.cells ∧ slots ≤ R.slots) (hrm : (st.map fun v => v.category).sum ≤ 8) (hdg : decode cc pc = .ok (.invokevirtual index, 3)) (kk : ∀ (r : Int32) (u : St), post r u → TW p l e R s m args below meth c cells slots Q D A nL (wT ad dB dI u) (pc + 3) lv (.int r :: st)) : TW p l e R s m args below meth c cells slots Q D A nL (wT ad dB dI x) pc lv (.ref (ad 0) :: st) :=
  tw_calli C (As := []) hM rfl rfl hq h1 h2 h3 (hq ▸ q22) h5 hd hR hC rfl hrm hdg kk
theorem tt_calli1 (C : Cx p s m args meth c D A nL cc RX0 (tyT dB dI) ret) {y : MethodName} {bytes : ByteArray} {maxL dc index : Nat} {rt : Option FieldType} {a1 : Int32} {post : Int32 → St → Prop} (hM : TMi l y bytes maxL rt dc D (tyT dB dI) (.ref (ad 0) :: [.int a1]) (wT ad dB dI x) (wT ad dB dI) post) (hq : RX0 = y.cls) (h1 : Cond.methodLink RX0 index y ∈ lw_all) (h2 : Cond.instanceMethod y ∈ lw_all) (h3 : Cond.selects y.cls y y ∈ lw_all) (h5 : Cond.code y bytes maxL rt ∈ lw_all) (hd : y.cls = y.cls ∧ y.cls ≠ "java/lang/invoke/MethodHandle" ∧ y.cls ≠ "java/lang/invoke/VarHandle" ∧ (parseMethodDescriptor y.desc).map (fun d => d.parameters.length) = some 1) (hR : dc + 1 ≤ R.frames ∧ 8 + (maxL + 11) + 30 * dc ≤ R.locals) (hC : cells ≤ R.cells ∧ slots ≤ R.slots) (hrm : (st.map fun v => v.category).sum ≤ 8) (hdg : decode cc pc = .ok (.invokevirtual index, 3)) (kk : ∀ (r : Int32) (u : St), post r u → TW p l e R s m args below meth c cells slots Q D A nL (wT ad dB dI u) (pc + 3) lv (.int r :: st)) : TW p l e R s m args below meth c cells slots Q D A nL (wT ad dB dI x) pc lv (.int a1 :: .ref (ad 0) :: st) :=
  tw_calli C (As := [.int a1]) hM rfl rfl hq h1 h2 h3 (hq ▸ q22) h5 hd hR hC rfl hrm hdg kk
theorem tt_calli2 (C : Cx p s m args meth c D A nL cc RX0 (tyT dB dI) ret) {y : MethodName} {bytes : ByteArray} {maxL dc index : Nat} {rt : Option FieldType} {a1 a2 : Int32} {post : Int32 → St → Prop} (hM : TMi l y bytes maxL rt dc D (tyT dB dI) (.ref (ad 0) :: [.int a1, .int a2]) (wT ad dB dI x) (wT ad dB dI) post) (hq : RX0 = y.cls) (h1 : Cond.methodLink RX0 index y ∈ lw_all) (h2 : Cond.instanceMethod y ∈ lw_all) (h3 : Cond.selects y.cls y y ∈ lw_all) (h5 : Cond.code y bytes maxL rt ∈ lw_all) (hd : y.cls = y.cls ∧ y.cls ≠ "java/lang/invoke/MethodHandle" ∧ y.cls ≠ "java/lang/invoke/VarHandle" ∧ (parseMethodDescriptor y.desc).map (fun d => d.parameters.length) = some 2) (hR : dc + 1 ≤ R.frames ∧ 8 + (maxL + 11) + 30 * dc ≤ R.locals) (hC : cells ≤ R.cells ∧ slots ≤ R.slots) (hrm : (st.map fun v => v.category).sum ≤ 8) (hdg : decode cc pc = .ok (.invokevirtual index, 3)) (kk : ∀ (r : Int32) (u : St), post r u → TW p l e R s m args below meth c cells slots Q D A nL (wT ad dB dI u) (pc + 3) lv (.int r :: st)) : TW p l e R s m args below meth c cells slots Q D A nL (wT ad dB dI x) pc lv (.int a2 :: .int a1 :: .ref (ad 0) :: st) :=
  tw_calli C (As := [.int a1, .int a2]) hM rfl rfl hq h1 h2 h3 (hq ▸ q22) h5 hd hR hC rfl hrm hdg kk
theorem tt_calli3 (C : Cx p s m args meth c D A nL cc RX0 (tyT dB dI) ret) {y : MethodName} {bytes : ByteArray} {maxL dc index : Nat} {rt : Option FieldType} {a1 a2 a3 : Int32} {post : Int32 → St → Prop} (hM : TMi l y bytes maxL rt dc D (tyT dB dI) (.ref (ad 0) :: [.int a1, .int a2, .int a3]) (wT ad dB dI x) (wT ad dB dI) post) (hq : RX0 = y.cls) (h1 : Cond.methodLink RX0 index y ∈ lw_all) (h2 : Cond.instanceMethod y ∈ lw_all) (h3 : Cond.selects y.cls y y ∈ lw_all) (h5 : Cond.code y bytes maxL rt ∈ lw_all) (hd : y.cls = y.cls ∧ y.cls ≠ "java/lang/invoke/MethodHandle" ∧ y.cls ≠ "java/lang/invoke/VarHandle" ∧ (parseMethodDescriptor y.desc).map (fun d => d.parameters.length) = some 3) (hR : dc + 1 ≤ R.frames ∧ 8 + (maxL + 11) + 30 * dc ≤ R.locals) (hC : cells ≤ R.cells ∧ slots ≤ R.slots) (hrm : (st.map fun v => v.category).sum ≤ 8) (hdg : decode cc pc = .ok (.invokevirtual index, 3)) (kk : ∀ (r : Int32) (u : St), post r u → TW p l e R s m args below meth c cells slots Q D A nL (wT ad dB dI u) (pc + 3) lv (.int r :: st)) : TW p l e R s m args below meth c cells slots Q D A nL (wT ad dB dI x) pc lv (.int a3 :: .int a2 :: .int a1 :: .ref (ad 0) :: st) :=
  tw_calli C (As := [.int a1, .int a2, .int a3]) hM rfl rfl hq h1 h2 h3 (hq ▸ q22) h5 hd hR hC rfl hrm hdg kk
theorem tt_calli4 (C : Cx p s m args meth c D A nL cc RX0 (tyT dB dI) ret) {y : MethodName} {bytes : ByteArray} {maxL dc index : Nat} {rt : Option FieldType} {a1 a2 a3 a4 : Int32} {post : Int32 → St → Prop} (hM : TMi l y bytes maxL rt dc D (tyT dB dI) (.ref (ad 0) :: [.int a1, .int a2, .int a3, .int a4]) (wT ad dB dI x) (wT ad dB dI) post) (hq : RX0 = y.cls) (h1 : Cond.methodLink RX0 index y ∈ lw_all) (h2 : Cond.instanceMethod y ∈ lw_all) (h3 : Cond.selects y.cls y y ∈ lw_all) (h5 : Cond.code y bytes maxL rt ∈ lw_all) (hd : y.cls = y.cls ∧ y.cls ≠ "java/lang/invoke/MethodHandle" ∧ y.cls ≠ "java/lang/invoke/VarHandle" ∧ (parseMethodDescriptor y.desc).map (fun d => d.parameters.length) = some 4) (hR : dc + 1 ≤ R.frames ∧ 8 + (maxL + 11) + 30 * dc ≤ R.locals) (hC : cells ≤ R.cells ∧ slots ≤ R.slots) (hrm : (st.map fun v => v.category).sum ≤ 8) (hdg : decode cc pc = .ok (.invokevirtual index, 3)) (kk : ∀ (r : Int32) (u : St), post r u → TW p l e R s m args below meth c cells slots Q D A nL (wT ad dB dI u) (pc + 3) lv (.int r :: st)) : TW p l e R s m args below meth c cells slots Q D A nL (wT ad dB dI x) pc lv (.int a4 :: .int a3 :: .int a2 :: .int a1 :: .ref (ad 0) :: st) :=
  tw_calli C (As := [.int a1, .int a2, .int a3, .int a4]) hM rfl rfl hq h1 h2 h3 (hq ▸ q22) h5 hd hR hC rfl hrm hdg kk
theorem tt_callv0 (C : Cx p s m args meth c D A nL cc RX0 (tyT dB dI) ret) {y : MethodName} {bytes : ByteArray} {maxL dc index : Nat} {post : St → Prop} (hM : TMv l y bytes maxL dc D (tyT dB dI) (.ref (ad 0) :: []) (wT ad dB dI x) (wT ad dB dI) post) (hq : RX0 = y.cls) (h1 : Cond.methodLink RX0 index y ∈ lw_all) (h2 : Cond.instanceMethod y ∈ lw_all) (h3 : Cond.selects y.cls y y ∈ lw_all) (h5 : Cond.code y bytes maxL none ∈ lw_all) (hd : y.cls = y.cls ∧ y.cls ≠ "java/lang/invoke/MethodHandle" ∧ y.cls ≠ "java/lang/invoke/VarHandle" ∧ (parseMethodDescriptor y.desc).map (fun d => d.parameters.length) = some 0) (hR : dc + 1 ≤ R.frames ∧ 8 + (maxL + 11) + 30 * dc ≤ R.locals) (hC : cells ≤ R.cells ∧ slots ≤ R.slots) (hrm : (st.map fun v => v.category).sum ≤ 8) (hdg : decode cc pc = .ok (.invokevirtual index, 3)) (kk : ∀ (u : St), post u → TW p l e R s m args below meth c cells slots Q D A nL (wT ad dB dI u) (pc + 3) lv st) : TW p l e R s m args below meth c cells slots Q D A nL (wT ad dB dI x) pc lv (.ref (ad 0) :: st) :=
  tw_callv C (As := []) hM rfl rfl hq h1 h2 h3 (hq ▸ q22) h5 hd hR hC rfl hrm hdg kk
theorem tt_callv1 (C : Cx p s m args meth c D A nL cc RX0 (tyT dB dI) ret) {y : MethodName} {bytes : ByteArray} {maxL dc index : Nat} {a1 : Int32} {post : St → Prop} (hM : TMv l y bytes maxL dc D (tyT dB dI) (.ref (ad 0) :: [.int a1]) (wT ad dB dI x) (wT ad dB dI) post) (hq : RX0 = y.cls) (h1 : Cond.methodLink RX0 index y ∈ lw_all) (h2 : Cond.instanceMethod y ∈ lw_all) (h3 : Cond.selects y.cls y y ∈ lw_all) (h5 : Cond.code y bytes maxL none ∈ lw_all) (hd : y.cls = y.cls ∧ y.cls ≠ "java/lang/invoke/MethodHandle" ∧ y.cls ≠ "java/lang/invoke/VarHandle" ∧ (parseMethodDescriptor y.desc).map (fun d => d.parameters.length) = some 1) (hR : dc + 1 ≤ R.frames ∧ 8 + (maxL + 11) + 30 * dc ≤ R.locals) (hC : cells ≤ R.cells ∧ slots ≤ R.slots) (hrm : (st.map fun v => v.category).sum ≤ 8) (hdg : decode cc pc = .ok (.invokevirtual index, 3)) (kk : ∀ (u : St), post u → TW p l e R s m args below meth c cells slots Q D A nL (wT ad dB dI u) (pc + 3) lv st) : TW p l e R s m args below meth c cells slots Q D A nL (wT ad dB dI x) pc lv (.int a1 :: .ref (ad 0) :: st) :=
  tw_callv C (As := [.int a1]) hM rfl rfl hq h1 h2 h3 (hq ▸ q22) h5 hd hR hC rfl hrm hdg kk
theorem tt_callv2 (C : Cx p s m args meth c D A nL cc RX0 (tyT dB dI) ret) {y : MethodName} {bytes : ByteArray} {maxL dc index : Nat} {a1 a2 : Int32} {post : St → Prop} (hM : TMv l y bytes maxL dc D (tyT dB dI) (.ref (ad 0) :: [.int a1, .int a2]) (wT ad dB dI x) (wT ad dB dI) post) (hq : RX0 = y.cls) (h1 : Cond.methodLink RX0 index y ∈ lw_all) (h2 : Cond.instanceMethod y ∈ lw_all) (h3 : Cond.selects y.cls y y ∈ lw_all) (h5 : Cond.code y bytes maxL none ∈ lw_all) (hd : y.cls = y.cls ∧ y.cls ≠ "java/lang/invoke/MethodHandle" ∧ y.cls ≠ "java/lang/invoke/VarHandle" ∧ (parseMethodDescriptor y.desc).map (fun d => d.parameters.length) = some 2) (hR : dc + 1 ≤ R.frames ∧ 8 + (maxL + 11) + 30 * dc ≤ R.locals) (hC : cells ≤ R.cells ∧ slots ≤ R.slots) (hrm : (st.map fun v => v.category).sum ≤ 8) (hdg : decode cc pc = .ok (.invokevirtual index, 3)) (kk : ∀ (u : St), post u → TW p l e R s m args below meth c cells slots Q D A nL (wT ad dB dI u) (pc + 3) lv st) : TW p l e R s m args below meth c cells slots Q D A nL (wT ad dB dI x) pc lv (.int a2 :: .int a1 :: .ref (ad 0) :: st) :=
  tw_callv C (As := [.int a1, .int a2]) hM rfl rfl hq h1 h2 h3 (hq ▸ q22) h5 hd hR hC rfl hrm hdg kk
theorem tt_callv3 (C : Cx p s m args meth c D A nL cc RX0 (tyT dB dI) ret) {y : MethodName} {bytes : ByteArray} {maxL dc index : Nat} {a1 a2 a3 : Int32} {post : St → Prop} (hM : TMv l y bytes maxL dc D (tyT dB dI) (.ref (ad 0) :: [.int a1, .int a2, .int a3]) (wT ad dB dI x) (wT ad dB dI) post) (hq : RX0 = y.cls) (h1 : Cond.methodLink RX0 index y ∈ lw_all) (h2 : Cond.instanceMethod y ∈ lw_all) (h3 : Cond.selects y.cls y y ∈ lw_all) (h5 : Cond.code y bytes maxL none ∈ lw_all) (hd : y.cls = y.cls ∧ y.cls ≠ "java/lang/invoke/MethodHandle" ∧ y.cls ≠ "java/lang/invoke/VarHandle" ∧ (parseMethodDescriptor y.desc).map (fun d => d.parameters.length) = some 3) (hR : dc + 1 ≤ R.frames ∧ 8 + (maxL + 11) + 30 * dc ≤ R.locals) (hC : cells ≤ R.cells ∧ slots ≤ R.slots) (hrm : (st.map fun v => v.category).sum ≤ 8) (hdg : decode cc pc = .ok (.invokevirtual index, 3)) (kk : ∀ (u : St), post u → TW p l e R s m args below meth c cells slots Q D A nL (wT ad dB dI u) (pc + 3) lv st) : TW p l e R s m args below meth c cells slots Q D A nL (wT ad dB dI x) pc lv (.int a3 :: .int a2 :: .int a1 :: .ref (ad 0) :: st) :=
  tw_callv C (As := [.int a1, .int a2, .int a3]) hM rfl rfl hq h1 h2 h3 (hq ▸ q22) h5 hd hR hC rfl hrm hdg kk
theorem tt_callv4 (C : Cx p s m args meth c D A nL cc RX0 (tyT dB dI) ret) {y : MethodName} {bytes : ByteArray} {maxL dc index : Nat} {a1 a2 a3 a4 : Int32} {post : St → Prop} (hM : TMv l y bytes maxL dc D (tyT dB dI) (.ref (ad 0) :: [.int a1, .int a2, .int a3, .int a4]) (wT ad dB dI x) (wT ad dB dI) post) (hq : RX0 = y.cls) (h1 : Cond.methodLink RX0 index y ∈ lw_all) (h2 : Cond.instanceMethod y ∈ lw_all) (h3 : Cond.selects y.cls y y ∈ lw_all) (h5 : Cond.code y bytes maxL none ∈ lw_all) (hd : y.cls = y.cls ∧ y.cls ≠ "java/lang/invoke/MethodHandle" ∧ y.cls ≠ "java/lang/invoke/VarHandle" ∧ (parseMethodDescriptor y.desc).map (fun d => d.parameters.length) = some 4) (hR : dc + 1 ≤ R.frames ∧ 8 + (maxL + 11) + 30 * dc ≤ R.locals) (hC : cells ≤ R.cells ∧ slots ≤ R.slots) (hrm : (st.map fun v => v.category).sum ≤ 8) (hdg : decode cc pc = .ok (.invokevirtual index, 3)) (kk : ∀ (u : St), post u → TW p l e R s m args below meth c cells slots Q D A nL (wT ad dB dI u) (pc + 3) lv st) : TW p l e R s m args below meth c cells slots Q D A nL (wT ad dB dI x) pc lv (.int a4 :: .int a3 :: .int a2 :: .int a1 :: .ref (ad 0) :: st) :=
  tw_callv C (As := [.int a1, .int a2, .int a3, .int a4]) hM rfl rfl hq h1 h2 h3 (hq ▸ q22) h5 hd hR hC rfl hrm hdg kk
theorem tt_st {y : St} (h : x = y) (k : TW p l e R s m args below meth c cells slots Q D A nL (wT ad dB dI y) pc lv st) : TW p l e R s m args below meth c cells slots Q D A nL (wT ad dB dI x) pc lv st := h ▸ k
end TTR
end
section
/-! small pure words: counts, shifts, bounds -/
def cntp (g : Nat → Nat) : Nat → Nat → Nat
  | 0, _ => 0
  | n + 1, v => cntp g n v + if g n = v then 1 else 0
def shU {α : Type} (f : Nat → α) (a b : Nat) : Nat → α := fun c => if a < c ∧ c ≤ b then f (c - 1) else f c
def shD {α : Type} (f : Nat → α) (a b : Nat) : Nat → α := fun c => if a ≤ c ∧ c < b then f (c + 1) else f c
def cpy {α : Type} (f : Nat → α) (src dst n : Nat) : Nat → α := fun c => if dst ≤ c ∧ c < dst + n then f (src + (c - dst)) else f c
theorem shU_0 {α : Type} (f : Nat → α) (a : Nat) : shU f a a = f := by
  funext c
  unfold shU
  rw [if_neg (by omega)]
theorem shD_0 {α : Type} (f : Nat → α) (a : Nat) : shD f a a = f := by
  funext c
  unfold shD
  rw [if_neg (by omega)]
theorem cpy_0 {α : Type} (f : Nat → α) (a b : Nat) : cpy f a b 0 = f := by
  funext c
  unfold cpy
  rw [if_neg (by omega)]
theorem updN_at (f : Nat → Nat) (k v : Nat) : updN f k v k = v := by
  unfold updN; rw [if_pos rfl]
theorem updN_ne {f : Nat → Nat} {k v j : Nat} (h : j ≠ k) : updN f k v j = f j := by
  unfold updN; rw [if_neg h]
theorem updN_updN (f : Nat → Nat) (k v w : Nat) : updN (updN f k v) k w = updN f k w := by
  funext j
  unfold updN
  by_cases h : j = k
  · simp only [h, if_true]
  · simp only [h, if_false]
theorem updN_self (f : Nat → Nat) (k : Nat) : updN f k (f k) = f := by
  funext j
  unfold updN
  by_cases h : j = k
  · simp only [h, if_true]
  · simp only [h, if_false]
theorem upd_at (f : Nat → Int32) (k : Nat) (v : Int32) : upd f k v k = v := by
  unfold upd; rw [if_pos rfl]
theorem upd_ne {f : Nat → Int32} {k j : Nat} {v : Int32} (h : j ≠ k) : upd f k v j = f j := by
  unfold upd; rw [if_neg h]
theorem shU_stepN (f : Nat → Nat) {a b : Nat} (h : a + 1 ≤ b) : updN (shU f (a + 1) b) (a + 1) (f a) = shU f a b := by
  funext c
  simp only [updN, shU]
  by_cases h1 : c = a + 1
  · subst h1
    rw [if_pos rfl, if_pos (by omega)]
    rfl
  · rw [if_neg h1]
    by_cases h2 : a + 1 < c ∧ c ≤ b
    · rw [if_pos h2, if_pos (by omega)]
    · rw [if_neg h2, if_neg (by omega)]
theorem shU_stepI (f : Nat → Int32) {a b : Nat} (h : a + 1 ≤ b) : upd (shU f (a + 1) b) (a + 1) (f a) = shU f a b := by
  funext c
  simp only [upd, shU]
  by_cases h1 : c = a + 1
  · subst h1
    rw [if_pos rfl, if_pos (by omega)]
    rfl
  · rw [if_neg h1]
    by_cases h2 : a + 1 < c ∧ c ≤ b
    · rw [if_pos h2, if_pos (by omega)]
    · rw [if_neg h2, if_neg (by omega)]
theorem shU_lo {α : Type} (f : Nat → α) {a b c : Nat} (h : c ≤ a) : shU f a b c = f c := by
  unfold shU; rw [if_neg (by omega)]
theorem shD_stepN (f : Nat → Nat) {a b : Nat} (h : a ≤ b) : updN (shD f a b) b (f (b + 1)) = shD f a (b + 1) := by
  funext c
  simp only [updN, shD]
  by_cases h1 : c = b
  · subst h1
    rw [if_pos rfl, if_pos (by omega)]
  · rw [if_neg h1]
    by_cases h2 : a ≤ c ∧ c < b
    · rw [if_pos h2, if_pos (by omega)]
    · rw [if_neg h2, if_neg (by omega)]
theorem shD_stepI (f : Nat → Int32) {a b : Nat} (h : a ≤ b) : upd (shD f a b) b (f (b + 1)) = shD f a (b + 1) := by
  funext c
  simp only [upd, shD]
  by_cases h1 : c = b
  · subst h1
    rw [if_pos rfl, if_pos (by omega)]
  · rw [if_neg h1]
    by_cases h2 : a ≤ c ∧ c < b
    · rw [if_pos h2, if_pos (by omega)]
    · rw [if_neg h2, if_neg (by omega)]
theorem shD_hi {α : Type} (f : Nat → α) {a b c : Nat} (h : b ≤ c) : shD f a b c = f c := by
  unfold shD; rw [if_neg (by omega)]
theorem cpy_out {α : Type} (f : Nat → α) {a b n c : Nat} (h : c < b ∨ b + n ≤ c) : cpy f a b n c = f c := by
  unfold cpy; rw [if_neg (by omega)]
theorem cpy_stepN (f : Nat → Nat) (a b n : Nat) : updN (cpy f a b n) (b + n) (f (a + n)) = cpy f a b (n + 1) := by
  funext c
  simp only [updN, cpy]
  by_cases h1 : c = b + n
  · subst h1
    rw [if_pos rfl, if_pos (by omega)]
    congr 1
    omega
  · rw [if_neg h1]
    by_cases h2 : b ≤ c ∧ c < b + n
    · rw [if_pos h2, if_pos (by omega)]
    · rw [if_neg h2, if_neg (by omega)]
theorem cpy_stepI (f : Nat → Int32) (a b n : Nat) : upd (cpy f a b n) (b + n) (f (a + n)) = cpy f a b (n + 1) := by
  funext c
  simp only [upd, cpy]
  by_cases h1 : c = b + n
  · subst h1
    rw [if_pos rfl, if_pos (by omega)]
    congr 1
    omega
  · rw [if_neg h1]
    by_cases h2 : b ≤ c ∧ c < b + n
    · rw [if_pos h2, if_pos (by omega)]
    · rw [if_neg h2, if_neg (by omega)]
theorem cntp_decs (lu g : Nat → Nat) (i : Nat) : updN (fun v => lu v - cntp g i v) (g i) (lu (g i) - cntp g i (g i) - 1) = fun v => lu v - cntp g (i + 1) v := by
  funext v
  simp only [updN, cntp]
  by_cases h : v = g i
  · subst h
    rw [if_pos rfl, if_pos rfl]
    omega
  · rw [if_neg h, if_neg (fun h2 => h h2.symm)]
    rfl
theorem cntp_incs (lu g : Nat → Nat) (i : Nat) : updN (fun v => lu v + cntp g i v) (g i) (lu (g i) + cntp g i (g i) + 1) = fun v => lu v + cntp g (i + 1) v := by
  funext v
  simp only [updN, cntp]
  by_cases h : v = g i
  · subst h
    rw [if_pos rfl, if_pos rfl]
    omega
  · rw [if_neg h, if_neg (fun h2 => h h2.symm)]
    rfl
theorem cntp_mono (g : Nat → Nat) (v : Nat) : ∀ {n k : Nat}, n ≤ k → cntp g n v ≤ cntp g k v := by
  intro n k h
  induction k with
  | zero => rw [Nat.le_zero.mp h]; exact Nat.le_refl _
  | succ k ih =>
    rcases Nat.lt_or_ge k n with h1 | h1
    · rw [show n = k + 1 by omega]; exact Nat.le_refl _
    · exact Nat.le_trans (ih h1) (by simp only [cntp]; omega)
theorem cntp_pos (g : Nat → Nat) {n i : Nat} (h : i < n) : 1 ≤ cntp g n (g i) := by
  refine Nat.le_trans ?_ (cntp_mono g (g i) (show i + 1 ≤ n from h))
  simp only [cntp, if_true]
  omega
/-- bounds that every state has -/
def Bd (x : St) : Prop := (∀ j, xlu x j < 128) ∧ (∀ j, xls x j ≤ 5) ∧ (∀ j, xlk x j < 32) ∧ (∀ j, xru x j < 128) ∧ (∀ j, xrs x j ≤ 17) ∧ (∀ j, xrl x j < 96) ∧ (∀ j, xvr x j < 8) ∧ xwk x < 8
/-- what the methods make of a state -/
def frL (x : St) (f : Nat) : St := sls (slu x (updN (xlu x) f 1)) (updN (xls x) f 0)
def frR (x : St) (f : Nat) : St := srs (sru x (updN (xru x) f 1)) (updN (xrs x) f 0)
def lvs (x : St) (r : Nat) : Nat → Nat := fun i => xrl x (r * 17 + i)
def relS (x : St) (r : Nat) : St := slu (sru x (updN (xru x) r (xru x r - 1))) (if xru x r = 1 then (fun v => xlu x v - cntp (lvs x r) (xrs x r) v) else xlu x)
def cpE (x : St) (fr i to j : Nat) : St := slv (slk x (updN (xlk x) (to * 5 + j) (xlk x (fr * 5 + i)))) (upd (xlv x) (to * 5 + j) (xlv x (fr * 5 + i)))
def insL (x : St) (p lf : Nat) : St := srs (srl x (updN (shU (xrl x) (xwk x * 17 + p) (xwk x * 17 + xrs x (xwk x))) (xwk x * 17 + p) lf)) (updN (xrs x) (xwk x) (xrs x (xwk x) + 1))
def drpL (x : St) (p : Nat) : St := srl (srs (slu x (updN (xlu x) (xrl x (xwk x * 17 + p)) (xlu x (xrl x (xwk x * 17 + p)) - 1))) (updN (xrs x) (xwk x) (xrs x (xwk x) - 1))) (shD (xrl x) (xwk x * 17 + p) (xwk x * 17 + (xrs x (xwk x) - 1)))
def plc (x : St) (r : Nat) (k : Int32) : Nat → Nat
  | 0 => 0
  | j + 1 => if k < nI (xlk x (lvs x r (j + 1) * 5)) then plc x r k j else j + 1
def plI (x : St) (r : Nat) (k : Int32) : Int32 := if xrs x r = 0 then -1 else nI (plc x r k (xrs x r - 1))
def belF (x : St) (lf : Nat) (k : Int32) : Nat → Nat → Nat
  | 0, n => n
  | m + 1, n => if nI (xlk x (lf * 5 + n)) < k then belF x lf k m (n + 1) else n
def bel (x : St) (lf : Nat) (k : Int32) : Nat := belF x lf k (xls x lf) 0
def celI (x : St) (r : Nat) (k : Int32) : Int32 :=
  if xrs x r = 0 then -1 else
  if bel x (lvs x r (plc x r k (xrs x r - 1))) k < xls x (lvs x r (plc x r k (xrs x r - 1))) ∧ nI (xlk x (lvs x r (plc x r k (xrs x r - 1)) * 5 + bel x (lvs x r (plc x r k (xrs x r - 1))) k)) = k then nI (lvs x r (plc x r k (xrs x r - 1)) * 5 + bel x (lvs x r (plc x r k (xrs x r - 1))) k) else -1
def keptP (x : St) (n : Int32) : Prop := ¬ n < nI (xfk x) ∧ ¬ nI (xla x) < n
def vix (n : Int32) : Nat := n.toBitVec.toNat % 4
end
section
set_option maxRecDepth 100000
section WALK1
variable {l : Launch} {D : va_G} {ad : Nat → Nat} {dB dI : ClassId}
theorem t_freshLeaf (x : St) (f : Nat) (hB : Bd x) (hf : f < 96) (h0 : xlu x f = 0) (hm : ∀ j, j < f → xlu x j ≠ 0) : TMi l yX0_freshLeaf cX0_freshLeaf 2 (some .int) 0 D (tyT dB dI) [.ref (ad 0)] (wT ad dB dI x) (wT ad dB dI) (fun r u => r = nI f ∧ u = frL x f) := by
  refine TMi.of (by decide) (Nat.le_of_ble_eq_true rfl) (fun p e s m below meth c A C => ?_)
  obtain ⟨blu, bls, blk, bru, brs, brl, bvr, bwk⟩ := hB
  refine tw_iconst C (nI 0) dX0_freshLeaf_0 (by decide) ?_
  refine tw_istore_n C dX0_freshLeaf_1 (by decide) rfl ?_
  refine tw_loop (fun _ => wT ad dB dI x) (fun i => [(0, .ref (ad 0)), (1, .int (nI i))]) (fun i => i ≤ f) (fun i => f - i) ?_ 0 (Nat.zero_le _)
  intro i hi ih
  refine tw_iload_n C dX0_freshLeaf_2 rfl ?_
  refine tw_bipush C (nI 96) dX0_freshLeaf_3 (by decide) ?_
  refine tn_icmp_ge C 39 dX0_freshLeaf_5 (by decide) (by omega) (by omega)  (fun h => ?_) (fun h => ?_)
  · omega
  have b1 := blu i
  refine tw_aload_n C dX0_freshLeaf_8 rfl ?_
  refine tt_get_lu C dX0_freshLeaf_9 ?_
  refine tw_iload_n C dX0_freshLeaf_12 rfl ?_
  refine tt_ld_lu C _ dX0_freshLeaf_13 (by omega) rfl ?_
  refine tn_if_ne C 33 dX0_freshLeaf_14 (by decide) (by omega)  (fun h => ?_) (fun h => ?_)
  · refine tn_inc C dX0_freshLeaf_33 rfl (by decide) rfl ?_
    refine tw_goto C 2 dX0_freshLeaf_36 (by decide) ?_
    have hne : i ≠ f := fun e => h (e ▸ h0)
    exact ih (i + 1) (by omega) (by omega)
  · have he : i = f := by
      rcases Nat.lt_or_ge i f with q | q
      · exact absurd h (hm i q)
      · omega
    subst he
    refine tw_aload_n C dX0_freshLeaf_17 rfl ?_
    refine tt_get_lu C dX0_freshLeaf_18 ?_
    refine tw_iload_n C dX0_freshLeaf_21 rfl ?_
    refine tw_iconst C (nI 1) dX0_freshLeaf_22 (by decide) ?_
    refine tt_st_lu C dX0_freshLeaf_23 (by omega) (by omega) ?_
    refine tw_aload_n C dX0_freshLeaf_24 rfl ?_
    refine tt_get_ls C dX0_freshLeaf_25 ?_
    refine tw_iload_n C dX0_freshLeaf_28 rfl ?_
    refine tw_iconst C (nI 0) dX0_freshLeaf_29 (by decide) ?_
    refine tt_st_ls C dX0_freshLeaf_30 (by omega) (by omega) ?_
    refine tw_iload_n C dX0_freshLeaf_31 rfl ?_
    exact tw_iret C (frL x i) dX0_freshLeaf_32 rfl rfl ⟨rfl, rfl⟩
theorem t_freshRoot (x : St) (f : Nat) (hB : Bd x) (hf : f < 8) (h0 : xru x f = 0) (hm : ∀ j, j < f → xru x j ≠ 0) : TMi l yX0_freshRoot cX0_freshRoot 2 (some .int) 0 D (tyT dB dI) [.ref (ad 0)] (wT ad dB dI x) (wT ad dB dI) (fun r u => r = nI f ∧ u = frR x f) := by
  refine TMi.of (by decide) (Nat.le_of_ble_eq_true rfl) (fun p e s m below meth c A C => ?_)
  obtain ⟨blu, bls, blk, bru, brs, brl, bvr, bwk⟩ := hB
  refine tw_iconst C (nI 0) dX0_freshRoot_0 (by decide) ?_
  refine tw_istore_n C dX0_freshRoot_1 (by decide) rfl ?_
  refine tw_loop (fun _ => wT ad dB dI x) (fun i => [(0, .ref (ad 0)), (1, .int (nI i))]) (fun i => i ≤ f) (fun i => f - i) ?_ 0 (Nat.zero_le _)
  intro i hi ih
  refine tw_iload_n C dX0_freshRoot_2 rfl ?_
  refine tw_bipush C (nI 8) dX0_freshRoot_3 (by decide) ?_
  refine tn_icmp_ge C 39 dX0_freshRoot_5 (by decide) (by omega) (by omega)  (fun h => ?_) (fun h => ?_)
  · omega
  have b1 := bru i
  refine tw_aload_n C dX0_freshRoot_8 rfl ?_
  refine tt_get_ru C dX0_freshRoot_9 ?_
  refine tw_iload_n C dX0_freshRoot_12 rfl ?_
  refine tt_ld_ru C _ dX0_freshRoot_13 (by omega) rfl ?_
  refine tn_if_ne C 33 dX0_freshRoot_14 (by decide) (by omega)  (fun h => ?_) (fun h => ?_)
  · refine tn_inc C dX0_freshRoot_33 rfl (by decide) rfl ?_
    refine tw_goto C 2 dX0_freshRoot_36 (by decide) ?_
    have hne : i ≠ f := fun e => h (e ▸ h0)
    exact ih (i + 1) (by omega) (by omega)
  · have he : i = f := by
      rcases Nat.lt_or_ge i f with q | q
      · exact absurd h (hm i q)
      · omega
    subst he
    refine tw_aload_n C dX0_freshRoot_17 rfl ?_
    refine tt_get_ru C dX0_freshRoot_18 ?_
    refine tw_iload_n C dX0_freshRoot_21 rfl ?_
    refine tw_iconst C (nI 1) dX0_freshRoot_22 (by decide) ?_
    refine tt_st_ru C dX0_freshRoot_23 (by omega) (by omega) ?_
    refine tw_aload_n C dX0_freshRoot_24 rfl ?_
    refine tt_get_rs C dX0_freshRoot_25 ?_
    refine tw_iload_n C dX0_freshRoot_28 rfl ?_
    refine tw_iconst C (nI 0) dX0_freshRoot_29 (by decide) ?_
    refine tt_st_rs C dX0_freshRoot_30 (by omega) (by omega) ?_
    refine tw_iload_n C dX0_freshRoot_31 rfl ?_
    exact tw_iret C (frR x i) dX0_freshRoot_32 rfl rfl ⟨rfl, rfl⟩
theorem t_release (x : St) (r : Nat) (hB : Bd x) (hr : r < 8) (h1 : 1 ≤ xru x r) (hc : xru x r = 1 → ∀ v, cntp (lvs x r) (xrs x r) v ≤ xlu x v) : TMv l yX0_release cX0_release 3 0 D (tyT dB dI) [.ref (ad 0), .int (nI r)] (wT ad dB dI x) (wT ad dB dI) (fun u => u = relS x r) := by
  refine TMv.of (by decide) (Nat.le_of_ble_eq_true rfl) (fun p e s m below meth c A C => ?_)
  obtain ⟨blu, bls, blk, bru, brs, brl, bvr, bwk⟩ := hB
  have b1 := bru r
  have b2 := brs r
  refine tw_aload_n C dX0_release_0 rfl ?_
  refine tt_get_ru C dX0_release_1 ?_
  refine tw_iload_n C dX0_release_4 rfl ?_
  refine tw_dup2 C dX0_release_5 rfl rfl ?_
  refine tt_ld_ru C _ dX0_release_6 (by omega) rfl ?_
  refine tw_iconst C (nI 1) dX0_release_7 (by decide) ?_
  refine tn_isub C dX0_release_8 (by omega) ?_
  refine tn_i2b C dX0_release_9 (by omega) ?_
  refine tt_st_ru C dX0_release_10 (by omega) (by omega) ?_
  refine tw_aload_n C dX0_release_11 rfl ?_
  refine tt_get_ru C dX0_release_12 ?_
  refine tw_iload_n C dX0_release_15 rfl ?_
  refine tt_ld_ru C (xru x r - 1) dX0_release_16 (by omega) (updN_at _ _ _) ?_
  refine tn_if_ne C 59 dX0_release_17 (by decide) (by omega)  (fun h => ?_) (fun h => ?_)
  · exact tw_vret C (relS x r) dX0_release_59 (by unfold relS; rw [if_neg (by omega)]) rfl
  · refine tw_iconst C (nI 0) dX0_release_20 (by decide) ?_
    refine tw_istore_n C dX0_release_21 (by decide) rfl ?_
    refine tw_loop (fun i => wT ad dB dI (slu (sru x (updN (xru x) r (xru x r - 1))) (fun v => xlu x v - cntp (lvs x r) i v))) (fun i => [(0, .ref (ad 0)), (1, .int (nI r)), (2, .int (nI i))]) (fun i => i ≤ xrs x r) (fun i => xrs x r - i) ?_ 0 (Nat.zero_le _)
    intro i hi ih
    refine tw_iload_n C dX0_release_22 rfl ?_
    refine tw_aload_n C dX0_release_23 rfl ?_
    refine tt_get_rs C dX0_release_24 ?_
    refine tw_iload_n C dX0_release_27 rfl ?_
    refine tt_ld_rs C (xrs x r) dX0_release_28 (by omega) rfl ?_
    refine tn_icmp_ge C 59 dX0_release_29 (by decide) (by omega) (by omega)  (fun h => ?_) (fun h => ?_)
    · have he : i = xrs x r := by omega
      exact tw_vret C (relS x r) dX0_release_59 (by unfold relS; rw [if_pos (by omega), he]) rfl
    · have b3 : lvs x r i < 96 := brl _
      have b4 := blu (lvs x r i)
      have c1 := Nat.le_trans (cntp_mono (lvs x r) (lvs x r i) (show i + 1 ≤ xrs x r from h)) (hc (by omega) (lvs x r i))
      simp only [cntp, if_true] at c1
      refine tw_aload_n C dX0_release_32 rfl ?_
      refine tt_get_lu C dX0_release_33 ?_
      refine tw_aload_n C dX0_release_36 rfl ?_
      refine tt_get_rl C dX0_release_37 ?_
      refine tw_iload_n C dX0_release_40 rfl ?_
      refine tw_bipush C (nI 17) dX0_release_41 (by decide) ?_
      refine tn_imul C dX0_release_43 ?_
      refine tw_iload_n C dX0_release_44 rfl ?_
      refine tn_iadd C dX0_release_45 ?_
      refine tt_ld_rl C (lvs x r i) dX0_release_46 (by omega) rfl ?_
      refine tw_dup2 C dX0_release_47 rfl rfl ?_
      refine tt_ld_lu C (xlu x (lvs x r i) - cntp (lvs x r) i (lvs x r i)) dX0_release_48 (by omega) rfl ?_
      refine tw_iconst C (nI 1) dX0_release_49 (by decide) ?_
      refine tn_isub C dX0_release_50 (by omega) ?_
      refine tn_i2b C dX0_release_51 (by omega) ?_
      refine tt_st_lu C dX0_release_52 (by omega) (by omega) ?_
      refine tn_inc C dX0_release_53 rfl (by decide) rfl ?_
      refine tw_goto C 22 dX0_release_56 (by decide) ?_
      exact tt_st (congrArg (slu (sru x (updN (xru x) r (xru x r - 1)))) (cntp_decs (xlu x) (lvs x r) i)) (ih (i + 1) (by omega) (by omega))
theorem t_copyEntry (x : St) (fr i to j : Nat) (hB : Bd x) (h1 : fr * 5 + i < 480) (h2 : to * 5 + j < 480) : TMv l yX0_copyEntry cX0_copyEntry 5 0 D (tyT dB dI) [.ref (ad 0), .int (nI fr), .int (nI i), .int (nI to), .int (nI j)] (wT ad dB dI x) (wT ad dB dI) (fun u => u = cpE x fr i to j) := by
  refine TMv.of (by decide) (Nat.le_of_ble_eq_true rfl) (fun p e s m below meth c A C => ?_)
  obtain ⟨blu, bls, blk, bru, brs, brl, bvr, bwk⟩ := hB
  have b1 := blk (fr * 5 + i)
  refine tw_aload_n C dX0_copyEntry_0 rfl ?_
  refine tt_get_lk C dX0_copyEntry_1 ?_
  refine tw_iload_n C dX0_copyEntry_4 rfl ?_
  refine tw_iconst C (nI 5) dX0_copyEntry_5 (by decide) ?_
  refine tn_imul C dX0_copyEntry_6 ?_
  refine tw_iload C dX0_copyEntry_7 rfl ?_
  refine tn_iadd C dX0_copyEntry_9 ?_
  refine tw_aload_n C dX0_copyEntry_10 rfl ?_
  refine tt_get_lk C dX0_copyEntry_11 ?_
  refine tw_iload_n C dX0_copyEntry_14 rfl ?_
  refine tw_iconst C (nI 5) dX0_copyEntry_15 (by decide) ?_
  refine tn_imul C dX0_copyEntry_16 ?_
  refine tw_iload_n C dX0_copyEntry_17 rfl ?_
  refine tn_iadd C dX0_copyEntry_18 ?_
  refine tt_ld_lk C _ dX0_copyEntry_19 (by omega) rfl ?_
  refine tt_st_lk C dX0_copyEntry_20 (by omega) (by omega) ?_
  refine tw_aload_n C dX0_copyEntry_21 rfl ?_
  refine tt_get_lv C dX0_copyEntry_22 ?_
  refine tw_iload_n C dX0_copyEntry_25 rfl ?_
  refine tw_iconst C (nI 5) dX0_copyEntry_26 (by decide) ?_
  refine tn_imul C dX0_copyEntry_27 ?_
  refine tw_iload C dX0_copyEntry_28 rfl ?_
  refine tn_iadd C dX0_copyEntry_30 ?_
  refine tw_aload_n C dX0_copyEntry_31 rfl ?_
  refine tt_get_lv C dX0_copyEntry_32 ?_
  refine tw_iload_n C dX0_copyEntry_35 rfl ?_
  refine tw_iconst C (nI 5) dX0_copyEntry_36 (by decide) ?_
  refine tn_imul C dX0_copyEntry_37 ?_
  refine tw_iload_n C dX0_copyEntry_38 rfl ?_
  refine tn_iadd C dX0_copyEntry_39 ?_
  refine tt_ld_lv C _ dX0_copyEntry_40 (by omega) rfl ?_
  refine tt_st_lv C dX0_copyEntry_41 (by omega) ?_
  exact tw_vret C (cpE x fr i to j) dX0_copyEntry_42 rfl rfl
theorem t_placeOf (x : St) (r : Nat) (k : Int32) (hB : Bd x) (hr : r < 8) : TMi l yX0_placeOf cX0_placeOf 6 (some .int) 0 D (tyT dB dI) [.ref (ad 0), .int (nI r), .int k] (wT ad dB dI x) (wT ad dB dI) (fun a u => a = plI x r k ∧ u = x) := by
  refine TMi.of (by decide) (Nat.le_of_ble_eq_true rfl) (fun p e s m below meth c A C => ?_)
  obtain ⟨blu, bls, blk, bru, brs, brl, bvr, bwk⟩ := hB
  have b1 := brs r
  refine tw_aload_n C dX0_placeOf_0 rfl ?_
  refine tt_get_rs C dX0_placeOf_1 ?_
  refine tw_iload_n C dX0_placeOf_4 rfl ?_
  refine tt_ld_rs C _ dX0_placeOf_5 (by omega) rfl ?_
  refine tn_if_le C 13 dX0_placeOf_6 (by decide) (by omega)  (fun h => ?_) (fun h => ?_)
  · refine tw_iconst C (-1) dX0_placeOf_13 (by decide) ?_
    refine tw_istore_n C dX0_placeOf_14 (by decide) rfl ?_
    refine tw_iconst C (nI 1) dX0_placeOf_15 (by decide) ?_
    refine tw_istore C dX0_placeOf_16 (by decide) rfl ?_
    refine tw_iload C dX0_placeOf_18 rfl ?_
    refine tw_aload_n C dX0_placeOf_20 rfl ?_
    refine tt_get_rs C dX0_placeOf_21 ?_
    refine tw_iload_n C dX0_placeOf_24 rfl ?_
    refine tt_ld_rs C _ dX0_placeOf_25 (by omega) rfl ?_
    refine tn_icmp_ge C 65 dX0_placeOf_26 (by decide) (by omega) (by omega)  (fun h2 => ?_) (fun h2 => ?_)
    · refine tw_iload_n C dX0_placeOf_65 rfl ?_
      exact tw_iret C x dX0_placeOf_66 rfl rfl ⟨by unfold plI; rw [if_pos h], rfl⟩
    · omega
  · refine tw_iconst C (nI 0) dX0_placeOf_9 (by decide) ?_
    refine tw_goto C 14 dX0_placeOf_10 (by decide) ?_
    refine tw_istore_n C dX0_placeOf_14 (by decide) rfl ?_
    refine tw_iconst C (nI 1) dX0_placeOf_15 (by decide) ?_
    refine tw_istore C dX0_placeOf_16 (by decide) rfl ?_
    refine tw_loop (fun _ => wT ad dB dI x) (fun j => [(0, .ref (ad 0)), (1, .int (nI r)), (2, .int k), (3, .int (nI (plc x r k j))), (4, .int (nI (j + 1)))]) (fun j => j + 1 ≤ xrs x r) (fun j => xrs x r - j) ?_ 0 h
    intro j hj ih
    refine tw_iload C dX0_placeOf_18 rfl ?_
    refine tw_aload_n C dX0_placeOf_20 rfl ?_
    refine tt_get_rs C dX0_placeOf_21 ?_
    refine tw_iload_n C dX0_placeOf_24 rfl ?_
    refine tt_ld_rs C _ dX0_placeOf_25 (by omega) rfl ?_
    refine tn_icmp_ge C 65 dX0_placeOf_26 (by decide) (by omega) (by omega)  (fun h2 => ?_) (fun h2 => ?_)
    · refine tw_iload_n C dX0_placeOf_65 rfl ?_
      exact tw_iret C x dX0_placeOf_66 rfl rfl ⟨by unfold plI; rw [if_neg (by omega), show xrs x r - 1 = j by omega], rfl⟩
    · have b3 : lvs x r (j + 1) < 96 := brl _
      have b4 := blk (lvs x r (j + 1) * 5)
      refine tw_aload_n C dX0_placeOf_29 rfl ?_
      refine tt_get_rl C dX0_placeOf_30 ?_
      refine tw_iload_n C dX0_placeOf_33 rfl ?_
      refine tw_bipush C (nI 17) dX0_placeOf_34 (by decide) ?_
      refine tn_imul C dX0_placeOf_36 ?_
      refine tw_iload C dX0_placeOf_37 rfl ?_
      refine tn_iadd C dX0_placeOf_39 ?_
      refine tt_ld_rl C (lvs x r (j + 1)) dX0_placeOf_40 (by omega) rfl ?_
      refine tw_istore C dX0_placeOf_41 (by decide) rfl ?_
      refine tw_aload_n C dX0_placeOf_43 rfl ?_
      refine tt_get_lk C dX0_placeOf_44 ?_
      refine tw_iload C dX0_placeOf_47 rfl ?_
      refine tw_iconst C (nI 5) dX0_placeOf_49 (by decide) ?_
      refine tn_imul C dX0_placeOf_50 ?_
      refine tt_ld_lk C _ dX0_placeOf_51 (by omega) rfl ?_
      refine tw_iload_n C dX0_placeOf_52 rfl ?_
      refine tw_icmp_gt C 59 dX0_placeOf_53 (by decide)  (fun h3 => ?_) (fun h3 => ?_)
      · refine tn_inc C dX0_placeOf_59 rfl (by decide) rfl ?_
        refine tw_goto C 18 dX0_placeOf_62 (by decide) ?_
        refine tw_pick [0, 1, 2, 3, 4] rfl ?_
        have e1 : plc x r k (j + 1) = plc x r k j := by
          show (if k < nI (xlk x (lvs x r (j + 1) * 5)) then plc x r k j else j + 1) = _
          rw [if_pos h3]
        have q := ih (j + 1) (by omega) (by omega)
        rw [e1] at q
        exact q
      · refine tw_iload C dX0_placeOf_56 rfl ?_
        refine tw_istore_n C dX0_placeOf_58 (by decide) rfl ?_
        refine tn_inc C dX0_placeOf_59 rfl (by decide) rfl ?_
        refine tw_goto C 18 dX0_placeOf_62 (by decide) ?_
        refine tw_pick [0, 1, 2, 3, 4] rfl ?_
        have e1 : plc x r k (j + 1) = j + 1 := by
          show (if k < nI (xlk x (lvs x r (j + 1) * 5)) then plc x r k j else j + 1) = _
          rw [if_neg h3]
        have q := ih (j + 1) (by omega) (by omega)
        rw [e1] at q
        exact q
end WALK1
end
section
set_option maxRecDepth 100000
theorem belF_step {x : St} {lf : Nat} {k : Int32} : ∀ (m n : Nat), belF x lf k m n ≤ m + n := by
  intro m
  induction m with
  | zero => intro n; simp only [belF]; omega
  | succ m ih =>
    intro n
    simp only [belF]
    by_cases h : nI (xlk x (lf * 5 + n)) < k
    · rw [if_pos h]; have := ih (n + 1); omega
    · rw [if_neg h]; omega
theorem bel_le (x : St) (lf : Nat) (k : Int32) : bel x lf k ≤ xls x lf := by
  have := belF_step (x := x) (lf := lf) (k := k) (xls x lf) 0
  unfold bel
  omega
theorem plc_le (x : St) (r : Nat) (k : Int32) : ∀ j, plc x r k j ≤ j := by
  intro j
  induction j with
  | zero => exact Nat.le_refl _
  | succ j ih =>
    simp only [plc]
    by_cases h : k < nI (xlk x (lvs x r (j + 1) * 5))
    · rw [if_pos h]; omega
    · rw [if_neg h]; omega
section WALK2
variable {l : Launch} {D : va_G} {ad : Nat → Nat} {dB dI : ClassId}
theorem t_below (x : St) (lf : Nat) (k : Int32) (hB : Bd x) (hr : lf < 96) : TMi l yX0_below cX0_below 4 (some .int) 0 D (tyT dB dI) [.ref (ad 0), .int (nI lf), .int k] (wT ad dB dI x) (wT ad dB dI) (fun a u => a = nI (bel x lf k) ∧ u = x) := by
  refine TMi.of (by decide) (Nat.le_of_ble_eq_true rfl) (fun p e s m below meth c A C => ?_)
  obtain ⟨blu, bls, blk, bru, brs, brl, bvr, bwk⟩ := hB
  have b1 := bls lf
  refine tw_iconst C (nI 0) dX0_below_0 (by decide) ?_
  refine tw_istore_n C dX0_below_1 (by decide) rfl ?_
  refine tw_loop (fun _ => wT ad dB dI x) (fun n => [(0, .ref (ad 0)), (1, .int (nI lf)), (2, .int k), (3, .int (nI n))]) (fun n => n ≤ xls x lf ∧ bel x lf k = belF x lf k (xls x lf - n) n) (fun n => xls x lf - n) ?_ 0 ⟨Nat.zero_le _, rfl⟩
  intro n hn ih
  obtain ⟨hn, hn2⟩ := hn
  refine tw_iload_n C dX0_below_2 rfl ?_
  refine tw_aload_n C dX0_below_3 rfl ?_
  refine tt_get_ls C dX0_below_4 ?_
  refine tw_iload_n C dX0_below_7 rfl ?_
  refine tt_ld_ls C _ dX0_below_8 (by omega) rfl ?_
  refine tn_icmp_ge C 32 dX0_below_9 (by decide) (by omega) (by omega)  (fun h => ?_) (fun h => ?_)
  · refine tw_iload_n C dX0_below_32 rfl ?_
    exact tw_iret C x dX0_below_33 rfl rfl ⟨by rw [hn2, show xls x lf - n = 0 by omega]; rfl, rfl⟩
  · have b4 := blk (lf * 5 + n)
    have e0 : xls x lf - n = (xls x lf - (n + 1)) + 1 := by omega
    refine tw_aload_n C dX0_below_12 rfl ?_
    refine tt_get_lk C dX0_below_13 ?_
    refine tw_iload_n C dX0_below_16 rfl ?_
    refine tw_iconst C (nI 5) dX0_below_17 (by decide) ?_
    refine tn_imul C dX0_below_18 ?_
    refine tw_iload_n C dX0_below_19 rfl ?_
    refine tn_iadd C dX0_below_20 ?_
    refine tt_ld_lk C _ dX0_below_21 (by omega) rfl ?_
    refine tw_iload_n C dX0_below_22 rfl ?_
    refine tw_icmp_ge C 32 dX0_below_23 (by decide)  (fun h2 => ?_) (fun h2 => ?_)
    · refine tw_iload_n C dX0_below_32 rfl ?_
      refine tw_iret C x dX0_below_33 rfl rfl ⟨?_, rfl⟩
      rw [hn2, e0]
      simp only [belF]
      rw [if_neg (Int32.not_lt.mpr h2)]
    · refine tn_inc C dX0_below_26 rfl (by decide) rfl ?_
      refine tw_goto C 2 dX0_below_29 (by decide) ?_
      refine ih (n + 1) ⟨by omega, ?_⟩ (by omega)
      rw [hn2, e0]
      simp only [belF]
      rw [if_pos (Int32.not_le.mp h2)]
theorem t_insertLeaf (x : St) (q lf : Nat) (hB : Bd x) (hq : q ≤ xrs x (xwk x)) (hs : xrs x (xwk x) ≤ 16) (hl : lf < 96) : TMv l yX0_insertLeaf cX0_insertLeaf 4 0 D (tyT dB dI) [.ref (ad 0), .int (nI q), .int (nI lf)] (wT ad dB dI x) (wT ad dB dI) (fun u => u = insL x q lf) := by
  refine TMv.of (by decide) (Nat.le_of_ble_eq_true rfl) (fun p e s m below meth c A C => ?_)
  obtain ⟨blu, bls, blk, bru, brs, brl, bvr, bwk⟩ := hB
  refine tw_aload_n C dX0_insertLeaf_0 rfl ?_
  refine tt_get_rs C dX0_insertLeaf_1 ?_
  refine tw_aload_n C dX0_insertLeaf_4 rfl ?_
  refine tt_get_wk C (xwk x) dX0_insertLeaf_5 rfl ?_
  refine tt_ld_rs C _ dX0_insertLeaf_8 (by omega) rfl ?_
  refine tw_istore_n C dX0_insertLeaf_9 (by decide) rfl ?_
  refine tw_loop (fun i => wT ad dB dI (srl x (shU (xrl x) (xwk x * 17 + i) (xwk x * 17 + xrs x (xwk x))))) (fun i => [(0, .ref (ad 0)), (1, .int (nI q)), (2, .int (nI lf)), (3, .int (nI i))]) (fun i => q ≤ i ∧ i ≤ xrs x (xwk x)) (fun i => i) ?_ (xrs x (xwk x)) ⟨hq, Nat.le_refl _⟩ |> tt_st (by rw [shU_0])
  intro i hi ih
  obtain ⟨hi, hi2⟩ := hi
  refine tw_iload_n C dX0_insertLeaf_10 rfl ?_
  refine tw_iload_n C dX0_insertLeaf_11 rfl ?_
  refine tn_icmp_le C 51 dX0_insertLeaf_12 (by decide) (by omega) (by omega)  (fun h => ?_) (fun h => ?_)
  · have he : i = q := by omega
    subst he
    refine tw_aload_n C dX0_insertLeaf_51 rfl ?_
    refine tt_get_rl C dX0_insertLeaf_52 ?_
    refine tw_aload_n C dX0_insertLeaf_55 rfl ?_
    refine tt_get_wk C (xwk x) dX0_insertLeaf_56 rfl ?_
    refine tw_bipush C (nI 17) dX0_insertLeaf_59 (by decide) ?_
    refine tn_imul C dX0_insertLeaf_61 ?_
    refine tw_iload_n C dX0_insertLeaf_62 rfl ?_
    refine tn_iadd C dX0_insertLeaf_63 ?_
    refine tw_iload_n C dX0_insertLeaf_64 rfl ?_
    refine tn_i2b C dX0_insertLeaf_65 (by omega) ?_
    refine tt_st_rl C dX0_insertLeaf_66 (by omega) (by omega) ?_
    refine tw_aload_n C dX0_insertLeaf_67 rfl ?_
    refine tt_get_rs C dX0_insertLeaf_68 ?_
    refine tw_aload_n C dX0_insertLeaf_71 rfl ?_
    refine tt_get_wk C (xwk x) dX0_insertLeaf_72 rfl ?_
    refine tw_dup2 C dX0_insertLeaf_75 rfl rfl ?_
    refine tt_ld_rs C (xrs x (xwk x)) dX0_insertLeaf_76 (by omega) rfl ?_
    refine tw_iconst C (nI 1) dX0_insertLeaf_77 (by decide) ?_
    refine tn_iadd C dX0_insertLeaf_78 ?_
    refine tn_i2b C dX0_insertLeaf_79 (by omega) ?_
    refine tt_st_rs C dX0_insertLeaf_80 (by omega) (by omega) ?_
    exact tw_vret C (insL x i lf) dX0_insertLeaf_81 rfl rfl
  · obtain ⟨a, rfl⟩ : ∃ a, i = a + 1 := ⟨i - 1, by omega⟩
    have b3 := brl (xwk x * 17 + a)
    refine tw_aload_n C dX0_insertLeaf_15 rfl ?_
    refine tt_get_rl C dX0_insertLeaf_16 ?_
    refine tw_aload_n C dX0_insertLeaf_19 rfl ?_
    refine tt_get_wk C (xwk x) dX0_insertLeaf_20 rfl ?_
    refine tw_bipush C (nI 17) dX0_insertLeaf_23 (by decide) ?_
    refine tn_imul C dX0_insertLeaf_25 ?_
    refine tw_iload_n C dX0_insertLeaf_26 rfl ?_
    refine tn_iadd C dX0_insertLeaf_27 ?_
    refine tw_aload_n C dX0_insertLeaf_28 rfl ?_
    refine tt_get_rl C dX0_insertLeaf_29 ?_
    refine tw_aload_n C dX0_insertLeaf_32 rfl ?_
    refine tt_get_wk C (xwk x) dX0_insertLeaf_33 rfl ?_
    refine tw_bipush C (nI 17) dX0_insertLeaf_36 (by decide) ?_
    refine tn_imul C dX0_insertLeaf_38 ?_
    refine tw_iload_n C dX0_insertLeaf_39 rfl ?_
    refine tn_iadd C dX0_insertLeaf_40 ?_
    refine tw_iconst C (nI 1) dX0_insertLeaf_41 (by decide) ?_
    refine tn_isub C dX0_insertLeaf_42 (by omega) ?_
    refine tt_ld_rl C (xrl x (xwk x * 17 + a)) dX0_insertLeaf_43 (by omega) (by rw [show xwk x * 17 + (a + 1) - 1 = xwk x * 17 + a by omega]; exact shU_lo _ (by omega)) ?_
    refine tt_st_rl C dX0_insertLeaf_44 (by omega) (by omega) ?_
    refine tn_dec C dX0_insertLeaf_45 rfl (by decide) rfl ?_
    refine tw_goto C 10 dX0_insertLeaf_48 (by decide) ?_
    exact tt_st (congrArg (srl x) (shU_stepN (xrl x) (a := xwk x * 17 + a) (by omega))) (ih a (by omega) (by omega))
theorem t_dropLeaf (x : St) (q : Nat) (hB : Bd x) (hq : q < xrs x (xwk x)) (hs : 1 ≤ xlu x (xrl x (xwk x * 17 + q))) : TMv l yX0_dropLeaf cX0_dropLeaf 3 0 D (tyT dB dI) [.ref (ad 0), .int (nI q)] (wT ad dB dI x) (wT ad dB dI) (fun u => u = drpL x q) := by
  refine TMv.of (by decide) (Nat.le_of_ble_eq_true rfl) (fun p e s m below meth c A C => ?_)
  obtain ⟨blu, bls, blk, bru, brs, brl, bvr, bwk⟩ := hB
  have b1 := brl (xwk x * 17 + q)
  have b2 := blu (xrl x (xwk x * 17 + q))
  have b3 := brs (xwk x)
  refine tw_aload_n C dX0_dropLeaf_0 rfl ?_
  refine tt_get_lu C dX0_dropLeaf_1 ?_
  refine tw_aload_n C dX0_dropLeaf_4 rfl ?_
  refine tt_get_rl C dX0_dropLeaf_5 ?_
  refine tw_aload_n C dX0_dropLeaf_8 rfl ?_
  refine tt_get_wk C (xwk x) dX0_dropLeaf_9 rfl ?_
  refine tw_bipush C (nI 17) dX0_dropLeaf_12 (by decide) ?_
  refine tn_imul C dX0_dropLeaf_14 ?_
  refine tw_iload_n C dX0_dropLeaf_15 rfl ?_
  refine tn_iadd C dX0_dropLeaf_16 ?_
  refine tt_ld_rl C _ dX0_dropLeaf_17 (by omega) rfl ?_
  refine tw_dup2 C dX0_dropLeaf_18 rfl rfl ?_
  refine tt_ld_lu C _ dX0_dropLeaf_19 (by omega) rfl ?_
  refine tw_iconst C (nI 1) dX0_dropLeaf_20 (by decide) ?_
  refine tn_isub C dX0_dropLeaf_21 (by omega) ?_
  refine tn_i2b C dX0_dropLeaf_22 (by omega) ?_
  refine tt_st_lu C dX0_dropLeaf_23 (by omega) (by omega) ?_
  refine tw_aload_n C dX0_dropLeaf_24 rfl ?_
  refine tt_get_rs C dX0_dropLeaf_25 ?_
  refine tw_aload_n C dX0_dropLeaf_28 rfl ?_
  refine tt_get_wk C (xwk x) dX0_dropLeaf_29 rfl ?_
  refine tw_dup2 C dX0_dropLeaf_32 rfl rfl ?_
  refine tt_ld_rs C (xrs x (xwk x)) dX0_dropLeaf_33 (by omega) rfl ?_
  refine tw_iconst C (nI 1) dX0_dropLeaf_34 (by decide) ?_
  refine tn_isub C dX0_dropLeaf_35 (by omega) ?_
  refine tn_i2b C dX0_dropLeaf_36 (by omega) ?_
  refine tt_st_rs C dX0_dropLeaf_37 (by omega) (by omega) ?_
  refine tw_iload_n C dX0_dropLeaf_38 rfl ?_
  refine tw_istore_n C dX0_dropLeaf_39 (by decide) rfl ?_
  refine tw_loop (fun i => wT ad dB dI (srl (srs (slu x (updN (xlu x) (xrl x (xwk x * 17 + q)) (xlu x (xrl x (xwk x * 17 + q)) - 1))) (updN (xrs x) (xwk x) (xrs x (xwk x) - 1))) (shD (xrl x) (xwk x * 17 + q) (xwk x * 17 + i)))) (fun i => [(0, .ref (ad 0)), (1, .int (nI q)), (2, .int (nI i))]) (fun i => q ≤ i ∧ i ≤ xrs x (xwk x) - 1) (fun i => xrs x (xwk x) - i) ?_ q ⟨Nat.le_refl _, by omega⟩ |> tt_st (by rw [shD_0])
  intro i hi ih
  obtain ⟨hi, hi2⟩ := hi
  refine tw_iload_n C dX0_dropLeaf_40 rfl ?_
  refine tw_aload_n C dX0_dropLeaf_41 rfl ?_
  refine tt_get_rs C dX0_dropLeaf_42 ?_
  refine tw_aload_n C dX0_dropLeaf_45 rfl ?_
  refine tt_get_wk C (xwk x) dX0_dropLeaf_46 rfl ?_
  refine tt_ld_rs C (xrs x (xwk x) - 1) dX0_dropLeaf_49 (by omega) (updN_at _ _ _) ?_
  refine tn_icmp_ge C 89 dX0_dropLeaf_50 (by decide) (by omega) (by omega)  (fun h => ?_) (fun h => ?_)
  · have he : i = xrs x (xwk x) - 1 := by omega
    subst he
    exact tw_vret C (drpL x q) dX0_dropLeaf_89 rfl rfl
  · have b4 := brl (xwk x * 17 + i + 1)
    refine tw_aload_n C dX0_dropLeaf_53 rfl ?_
    refine tt_get_rl C dX0_dropLeaf_54 ?_
    refine tw_aload_n C dX0_dropLeaf_57 rfl ?_
    refine tt_get_wk C (xwk x) dX0_dropLeaf_58 rfl ?_
    refine tw_bipush C (nI 17) dX0_dropLeaf_61 (by decide) ?_
    refine tn_imul C dX0_dropLeaf_63 ?_
    refine tw_iload_n C dX0_dropLeaf_64 rfl ?_
    refine tn_iadd C dX0_dropLeaf_65 ?_
    refine tw_aload_n C dX0_dropLeaf_66 rfl ?_
    refine tt_get_rl C dX0_dropLeaf_67 ?_
    refine tw_aload_n C dX0_dropLeaf_70 rfl ?_
    refine tt_get_wk C (xwk x) dX0_dropLeaf_71 rfl ?_
    refine tw_bipush C (nI 17) dX0_dropLeaf_74 (by decide) ?_
    refine tn_imul C dX0_dropLeaf_76 ?_
    refine tw_iload_n C dX0_dropLeaf_77 rfl ?_
    refine tn_iadd C dX0_dropLeaf_78 ?_
    refine tw_iconst C (nI 1) dX0_dropLeaf_79 (by decide) ?_
    refine tn_iadd C dX0_dropLeaf_80 ?_
    refine tt_ld_rl C (xrl x (xwk x * 17 + i + 1)) dX0_dropLeaf_81 (by omega) (shD_hi _ (by omega)) ?_
    refine tt_st_rl C dX0_dropLeaf_82 (by omega) (by omega) ?_
    refine tn_inc C dX0_dropLeaf_83 rfl (by decide) rfl ?_
    refine tw_goto C 40 dX0_dropLeaf_86 (by decide) ?_
    exact tt_st (congrArg (srl (srs (slu x (updN (xlu x) (xrl x (xwk x * 17 + q)) (xlu x (xrl x (xwk x * 17 + q)) - 1))) (updN (xrs x) (xwk x) (xrs x (xwk x) - 1)))) (shD_stepN (xrl x) (b := xwk x * 17 + i) (by omega))) (ih (i + 1) ⟨by omega, by omega⟩ (by omega))
theorem t_isKept (x : St) (n : Int32) : TMi l yX0_isKept cX0_isKept 2 (some .boolean) 0 D (tyT dB dI) [.ref (ad 0), .int n] (wT ad dB dI x) (wT ad dB dI) (fun a u => ((a = 1 ∧ keptP x n) ∨ (a = 0 ∧ ¬ keptP x n)) ∧ u = x) := by
  refine TMi.of (by decide) (Nat.le_of_ble_eq_true rfl) (fun p e s m below meth c A C => ?_)
  refine tw_iload_n C dX0_isKept_0 rfl ?_
  refine tw_aload_n C dX0_isKept_1 rfl ?_
  refine tt_get_fk C _ dX0_isKept_2 rfl ?_
  refine tw_icmp_lt C 20 dX0_isKept_5 (by decide)  (fun h => ?_) (fun h => ?_)
  · refine tw_iconst C (nI 0) dX0_isKept_20 (by decide) ?_
    exact tw_iret C x dX0_isKept_21 rfl rfl ⟨Or.inr ⟨rfl, fun q => q.1 h⟩, rfl⟩
  · refine tw_iload_n C dX0_isKept_8 rfl ?_
    refine tw_aload_n C dX0_isKept_9 rfl ?_
    refine tt_get_la C _ dX0_isKept_10 rfl ?_
    refine tw_icmp_gt C 20 dX0_isKept_13 (by decide)  (fun h2 => ?_) (fun h2 => ?_)
    · refine tw_iconst C (nI 0) dX0_isKept_20 (by decide) ?_
      exact tw_iret C x dX0_isKept_21 rfl rfl ⟨Or.inr ⟨rfl, fun q => q.2 h2⟩, rfl⟩
    · refine tw_iconst C (nI 1) dX0_isKept_16 (by decide) ?_
      refine tw_goto C 21 dX0_isKept_17 (by decide) ?_
      exact tw_iret C x dX0_isKept_21 rfl rfl ⟨Or.inl ⟨rfl, h, h2⟩, rfl⟩
theorem t_rootOf (x : St) (n : Int32) (hB : Bd x) : TMi l yX0_rootOf cX0_rootOf 2 (some .int) 1 D (tyT dB dI) [.ref (ad 0), .int n] (wT ad dB dI x) (wT ad dB dI) (fun a u => ((n = 0 ∧ a = nI (xwk x)) ∨ (n ≠ 0 ∧ keptP x n ∧ a = nI (xvr x (vix n))) ∨ (n ≠ 0 ∧ ¬ keptP x n ∧ a = -1)) ∧ u = x) := by
  refine TMi.of (by decide) (Nat.le_of_ble_eq_true rfl) (fun p e s m below meth c A C => ?_)
  obtain ⟨blu, bls, blk, bru, brs, brl, bvr, bwk⟩ := hB
  refine tw_iload_n C dX0_rootOf_0 rfl ?_
  refine tw_if_ne C 9 dX0_rootOf_1 (by decide)  (fun h => ?_) (fun h => ?_)
  · refine tw_aload_n C dX0_rootOf_9 rfl ?_
    refine tw_iload_n C dX0_rootOf_10 rfl ?_
    refine tt_calli1 C (t_isKept x n) rfl q136 q138 qs13 q139 (by decide +kernel) (by decide) (by decide) (Nat.le_of_ble_eq_true rfl) dX0_rootOf_11  (fun r u hu => ?_)
    obtain ⟨hu, rfl⟩ := hu
    refine tw_if_eq C 28 dX0_rootOf_14 (by decide)  (fun h2 => ?_) (fun h2 => ?_)
    · refine tw_iconst C (-1) dX0_rootOf_28 (by decide) ?_
      rcases hu with hu | hu
      · exact absurd (hu.1.symm.trans h2) (by decide)
      · exact tw_iret C u dX0_rootOf_29 rfl rfl ⟨Or.inr (Or.inr ⟨h, hu.2, rfl⟩), rfl⟩
    · have b3 := bvr (vix n)
      have b4 : vix n < 4 := Nat.mod_lt _ (by decide)
      refine tw_aload_n C dX0_rootOf_17 rfl ?_
      refine tt_get_vr C dX0_rootOf_18 ?_
      refine tw_iload_n C dX0_rootOf_21 rfl ?_
      refine tw_iconst C (nI 3) dX0_rootOf_22 (by decide) ?_
      refine tw_iand C dX0_rootOf_23 ?_
      refine tw_top (congrArg Value.int (pk_and n 2 (m := nI 3) (by decide))) ?_
      refine tt_ld_vr C (xvr u (vix n)) dX0_rootOf_24 (by omega) rfl ?_
      refine tw_goto C 29 dX0_rootOf_25 (by decide) ?_
      rcases hu with hu | hu
      · exact tw_iret C u dX0_rootOf_29 rfl rfl ⟨Or.inr (Or.inl ⟨h, hu.2, rfl⟩), rfl⟩
      · exact absurd hu.1 h2
  · refine tw_aload_n C dX0_rootOf_4 rfl ?_
    refine tt_get_wk C _ dX0_rootOf_5 rfl ?_
    exact tw_iret C x dX0_rootOf_8 rfl rfl ⟨Or.inl ⟨h, rfl⟩, rfl⟩
theorem t_kept (x : St) : TMi l yX0_kept cX0_kept 1 (some .int) 0 D (tyT dB dI) [.ref (ad 0)] (wT ad dB dI x) (wT ad dB dI) (fun a u => a = (if nI (xfk x) ≤ nI (xla x) then nI (xfk x + 1000 * xla x) else 0) ∧ u = x) := by
  refine TMi.of (by decide) (Nat.le_of_ble_eq_true rfl) (fun p e s m below meth c A C => ?_)
  refine tw_aload_n C dX0_kept_0 rfl ?_
  refine tt_get_la C _ dX0_kept_1 rfl ?_
  refine tw_aload_n C dX0_kept_4 rfl ?_
  refine tt_get_fk C _ dX0_kept_5 rfl ?_
  refine tw_icmp_ge C 15 dX0_kept_8 (by decide)  (fun h => ?_) (fun h => ?_)
  · refine tw_aload_n C dX0_kept_15 rfl ?_
    refine tt_get_fk C _ dX0_kept_16 rfl ?_
    refine tw_sipush C (nI 1000) dX0_kept_19 (by decide) ?_
    refine tw_aload_n C dX0_kept_22 rfl ?_
    refine tt_get_la C _ dX0_kept_23 rfl ?_
    refine tn_imul C dX0_kept_26 ?_
    refine tn_iadd C dX0_kept_27 ?_
    exact tw_iret C x dX0_kept_28 rfl rfl ⟨by rw [if_pos h], rfl⟩
  · refine tw_iconst C (nI 0) dX0_kept_11 (by decide) ?_
    refine tw_goto C 28 dX0_kept_12 (by decide) ?_
    exact tw_iret C x dX0_kept_28 rfl rfl ⟨by rw [if_neg h]; rfl, rfl⟩
theorem t_cellOf (x : St) (r : Nat) (k : Int32) (hB : Bd x) (hr : r < 8) : TMi l yX0_cellOf cX0_cellOf 7 (some .int) 1 D (tyT dB dI) [.ref (ad 0), .int (nI r), .int k] (wT ad dB dI x) (wT ad dB dI) (fun a u => a = celI x r k ∧ u = x) := by
  refine TMi.of (by decide) (Nat.le_of_ble_eq_true rfl) (fun p e s m below meth c A C => ?_)
  have hB0 := hB
  obtain ⟨blu, bls, blk, bru, brs, brl, bvr, bwk⟩ := hB
  have b1 := brs r
  refine tw_aload_n C dX0_cellOf_0 rfl ?_
  refine tw_iload_n C dX0_cellOf_1 rfl ?_
  refine tw_iload_n C dX0_cellOf_2 rfl ?_
  refine tt_calli2 C (t_placeOf x r k hB0 hr) rfl q84 q86 qs3 q87 (by decide +kernel) (by decide) (by decide) (Nat.le_of_ble_eq_true rfl) dX0_cellOf_3  (fun a u hu => ?_)
  obtain ⟨rfl, rfl⟩ := hu
  by_cases h0 : xrs u r = 0
  · rw [show plI u r k = -1 by unfold plI; rw [if_pos h0]]
    refine tw_istore_n C dX0_cellOf_6 (by decide) rfl ?_
    refine tw_iload_n C dX0_cellOf_7 rfl ?_
    refine tw_if_ge C 13 dX0_cellOf_8 (by decide)  (fun h => ?_) (fun h => ?_)
    · exact absurd h (by decide)
    · refine tw_iconst C (-1) dX0_cellOf_11 (by decide) ?_
      exact tw_iret C u dX0_cellOf_12 rfl rfl ⟨by unfold celI; rw [if_pos h0], rfl⟩
  · have e1 : plI u r k = nI (plc u r k (xrs u r - 1)) := by unfold plI; rw [if_neg h0]
    have e2 : celI u r k = if bel u (lvs u r (plc u r k (xrs u r - 1))) k < xls u (lvs u r (plc u r k (xrs u r - 1))) ∧ nI (xlk u (lvs u r (plc u r k (xrs u r - 1)) * 5 + bel u (lvs u r (plc u r k (xrs u r - 1))) k)) = k then nI (lvs u r (plc u r k (xrs u r - 1)) * 5 + bel u (lvs u r (plc u r k (xrs u r - 1))) k) else -1 := by unfold celI; rw [if_neg h0]
    rw [e1]
    have b2 := plc_le u r k (xrs u r - 1)
    generalize plc u r k (xrs u r - 1) = q at e2 b2 ⊢
    have b3 : lvs u r q < 96 := brl _
    generalize hlf : lvs u r q = lf at e2 b3
    have b4 := bls lf
    have b5 := bel_le u lf k
    refine tw_istore_n C dX0_cellOf_6 (by decide) rfl ?_
    refine tw_iload_n C dX0_cellOf_7 rfl ?_
    refine tn_if_ge C 13 dX0_cellOf_8 (by decide) (by omega) ?_
    refine tw_aload_n C dX0_cellOf_13 rfl ?_
    refine tt_get_rl C dX0_cellOf_14 ?_
    refine tw_iload_n C dX0_cellOf_17 rfl ?_
    refine tw_bipush C (nI 17) dX0_cellOf_18 (by decide) ?_
    refine tn_imul C dX0_cellOf_20 ?_
    refine tw_iload_n C dX0_cellOf_21 rfl ?_
    refine tn_iadd C dX0_cellOf_22 ?_
    refine tt_ld_rl C lf dX0_cellOf_23 (by omega) hlf ?_
    refine tw_istore C dX0_cellOf_24 (by decide) rfl ?_
    refine tw_aload_n C dX0_cellOf_26 rfl ?_
    refine tw_iload C dX0_cellOf_27 rfl ?_
    refine tw_iload_n C dX0_cellOf_29 rfl ?_
    refine tt_calli2 C (t_below u lf k hB0 b3) rfl q104 q106 qs8 q107 (by decide +kernel) (by decide) (by decide) (Nat.le_of_ble_eq_true rfl) dX0_cellOf_30  (fun a v hv => ?_)
    obtain ⟨rfl, rfl⟩ := hv
    generalize bel v lf k = i at e2 b5 ⊢
    refine tw_istore C dX0_cellOf_33 (by decide) rfl ?_
    refine tw_iload C dX0_cellOf_35 rfl ?_
    refine tw_aload_n C dX0_cellOf_37 rfl ?_
    refine tt_get_ls C dX0_cellOf_38 ?_
    refine tw_iload C dX0_cellOf_41 rfl ?_
    refine tt_ld_ls C _ dX0_cellOf_43 (by omega) rfl ?_
    refine tn_icmp_ge C 67 dX0_cellOf_44 (by decide) (by omega) (by omega)  (fun h => ?_) (fun h => ?_)
    · refine tw_iconst C (nI 0) dX0_cellOf_67 (by decide) ?_
      refine tw_istore C dX0_cellOf_68 (by decide) rfl ?_
      refine tw_iload C dX0_cellOf_70 rfl ?_
      refine tn_if_eq C 85 dX0_cellOf_72 (by decide) (by omega)  (fun h2 => ?_) (fun h2 => ?_)
      · refine tw_iconst C (-1) dX0_cellOf_85 (by decide) ?_
        exact tw_iret C v dX0_cellOf_86 rfl rfl ⟨by rw [e2, if_neg (fun q => absurd q.1 (by omega))], rfl⟩
      · exact absurd rfl h2
    · refine tw_aload_n C dX0_cellOf_47 rfl ?_
      refine tt_get_lk C dX0_cellOf_48 ?_
      refine tw_iload C dX0_cellOf_51 rfl ?_
      refine tw_iconst C (nI 5) dX0_cellOf_53 (by decide) ?_
      refine tn_imul C dX0_cellOf_54 ?_
      refine tw_iload C dX0_cellOf_55 rfl ?_
      refine tn_iadd C dX0_cellOf_57 ?_
      refine tt_ld_lk C _ dX0_cellOf_58 (by omega) rfl ?_
      refine tw_iload_n C dX0_cellOf_59 rfl ?_
      refine tw_icmp_ne C 67 dX0_cellOf_60 (by decide)  (fun h2 => ?_) (fun h2 => ?_)
      · refine tw_iconst C (nI 0) dX0_cellOf_67 (by decide) ?_
        refine tw_istore C dX0_cellOf_68 (by decide) rfl ?_
        refine tw_iload C dX0_cellOf_70 rfl ?_
        refine tn_if_eq C 85 dX0_cellOf_72 (by decide) (by omega)  (fun h3 => ?_) (fun h3 => ?_)
        · refine tw_iconst C (-1) dX0_cellOf_85 (by decide) ?_
          exact tw_iret C v dX0_cellOf_86 rfl rfl ⟨by rw [e2, if_neg (fun q => h2 q.2)], rfl⟩
        · exact absurd rfl h3
      · refine tw_iconst C (nI 1) dX0_cellOf_63 (by decide) ?_
        refine tw_goto C 68 dX0_cellOf_64 (by decide) ?_
        refine tw_istore C dX0_cellOf_68 (by decide) rfl ?_
        refine tw_iload C dX0_cellOf_70 rfl ?_
        refine tn_if_eq C 85 dX0_cellOf_72 (by decide) (by omega)  (fun h3 => ?_) (fun h3 => ?_)
        · exact absurd h3 (by decide)
        · refine tw_iload C dX0_cellOf_75 rfl ?_
          refine tw_iconst C (nI 5) dX0_cellOf_77 (by decide) ?_
          refine tn_imul C dX0_cellOf_78 ?_
          refine tw_iload C dX0_cellOf_79 rfl ?_
          refine tn_iadd C dX0_cellOf_81 ?_
          refine tw_goto C 86 dX0_cellOf_82 (by decide) ?_
          exact tw_iret C v dX0_cellOf_86 rfl rfl ⟨by rw [e2, if_pos ⟨h, h2⟩], rfl⟩
end WALK2
end
section
set_option maxRecDepth 100000
theorem updN_lt {f : Nat → Nat} {B k v : Nat} (h : ∀ j, f j < B) (hv : v < B) : ∀ j, updN f k v j < B := by
  intro j
  unfold updN
  by_cases e : j = k
  · rw [if_pos e]; exact hv
  · rw [if_neg e]; exact h j
theorem updN_le {f : Nat → Nat} {B k v : Nat} (h : ∀ j, f j ≤ B) (hv : v ≤ B) : ∀ j, updN f k v j ≤ B := by
  intro j
  unfold updN
  by_cases e : j = k
  · rw [if_pos e]; exact hv
  · rw [if_neg e]; exact h j
theorem cpy_lt {f : Nat → Nat} {B a b n : Nat} (h : ∀ j, f j < B) : ∀ j, cpy f a b n j < B := by
  intro j
  unfold cpy
  by_cases e : b ≤ j ∧ j < b + n
  · rw [if_pos e]; exact h _
  · rw [if_neg e]; exact h j
theorem shU_lt {f : Nat → Nat} {B a b : Nat} (h : ∀ j, f j < B) : ∀ j, shU f a b j < B := by
  intro j
  unfold shU
  by_cases e : a < j ∧ j ≤ b
  · rw [if_pos e]; exact h _
  · rw [if_neg e]; exact h j
theorem shD_lt {f : Nat → Nat} {B a b : Nat} (h : ∀ j, f j < B) : ∀ j, shD f a b j < B := by
  intro j
  unfold shD
  by_cases e : a ≤ j ∧ j < b
  · rw [if_pos e]; exact h _
  · rw [if_neg e]; exact h j
theorem Bd_lu {x : St} {g : Nat → Nat} (h : Bd x) (hg : ∀ j, g j < 128) : Bd (slu x g) := ⟨hg, h.2⟩
theorem Bd_ls {x : St} {g : Nat → Nat} (h : Bd x) (hg : ∀ j, g j ≤ 5) : Bd (sls x g) := ⟨h.1, hg, h.2.2⟩
theorem Bd_lk {x : St} {g : Nat → Nat} (h : Bd x) (hg : ∀ j, g j < 32) : Bd (slk x g) := ⟨h.1, h.2.1, hg, h.2.2.2⟩
theorem Bd_lv {x : St} {g : Nat → Int32} (h : Bd x) : Bd (slv x g) := h
theorem Bd_ru {x : St} {g : Nat → Nat} (h : Bd x) (hg : ∀ j, g j < 128) : Bd (sru x g) := ⟨h.1, h.2.1, h.2.2.1, hg, h.2.2.2.2⟩
theorem Bd_rs {x : St} {g : Nat → Nat} (h : Bd x) (hg : ∀ j, g j ≤ 17) : Bd (srs x g) := ⟨h.1, h.2.1, h.2.2.1, h.2.2.2.1, hg, h.2.2.2.2.2⟩
theorem Bd_rl {x : St} {g : Nat → Nat} (h : Bd x) (hg : ∀ j, g j < 96) : Bd (srl x g) := ⟨h.1, h.2.1, h.2.2.1, h.2.2.2.1, h.2.2.2.2.1, hg, h.2.2.2.2.2.2⟩
theorem Bd_vr {x : St} {g : Nat → Nat} (h : Bd x) (hg : ∀ j, g j < 8) : Bd (svr x g) := ⟨h.1, h.2.1, h.2.2.1, h.2.2.2.1, h.2.2.2.2.1, h.2.2.2.2.2.1, hg, h.2.2.2.2.2.2.2⟩
theorem Bd_wk {x : St} {g : Nat} (h : Bd x) (hg : g < 8) : Bd (swk x g) := ⟨h.1, h.2.1, h.2.2.1, h.2.2.2.1, h.2.2.2.2.1, h.2.2.2.2.2.1, h.2.2.2.2.2.2.1, hg⟩
theorem Bd_cpE {x : St} {a i b j : Nat} (h : Bd x) : Bd (cpE x a i b j) := Bd_lv (Bd_lk h (updN_lt h.2.2.1 (h.2.2.1 _)))
theorem Bd_frL {x : St} {f : Nat} (h : Bd x) : Bd (frL x f) := Bd_ls (Bd_lu h (updN_lt h.1 (by decide))) (updN_le h.2.1 (by decide))
theorem Bd_frR {x : St} {f : Nat} (h : Bd x) : Bd (frR x f) := Bd_rs (Bd_ru h (updN_lt h.2.2.2.1 (by decide))) (updN_le h.2.2.2.2.1 (by decide))
theorem Bd_insL {x : St} {q lf : Nat} (h : Bd x) (hs : xrs x (xwk x) ≤ 16) (hl : lf < 96) : Bd (insL x q lf) := Bd_rs (Bd_rl h (updN_lt (shU_lt h.2.2.2.2.2.1) hl)) (updN_le h.2.2.2.2.1 (by omega))
theorem Bd_drpL {x : St} {q : Nat} (h : Bd x) : Bd (drpL x q) := Bd_rl (Bd_rs (Bd_lu h (updN_lt h.1 (by have := h.1 (xrl x (xwk x * 17 + q)); omega))) (updN_le h.2.2.2.2.1 (by have := h.2.2.2.2.1 (xwk x); omega))) (shD_lt h.2.2.2.2.2.1)
def ownR (x : St) (f : Nat) : St := swk (sru (srl (srs (slu x (fun v => xlu x v + cntp (lvs x (xwk x)) (xrs x (xwk x)) v)) (updN (xrs x) f (xrs x (xwk x)))) (cpy (xrl x) (xwk x * 17) (f * 17) (xrs x (xwk x)))) (updN (updN (xru x) f 1) (xwk x) (xru x (xwk x) - 1))) f
def ownL (x : St) (q f : Nat) : St := srl (slu (slv (slk (sls x (updN (xls x) f (xls x (lvs x (xwk x) q)))) (cpy (xlk x) (lvs x (xwk x) q * 5) (f * 5) (xls x (lvs x (xwk x) q)))) (cpy (xlv x) (lvs x (xwk x) q * 5) (f * 5) (xls x (lvs x (xwk x) q)))) (updN (updN (xlu x) f 1) (lvs x (xwk x) q) (xlu x (lvs x (xwk x) q) - 1))) (updN (xrl x) (xwk x * 17 + q) f)
def splS (x : St) (q lf f : Nat) : St := insL (sls (cpE (cpE (frL x f) lf 3 f 0) lf 4 f 1) (updN (updN (xls x) f 2) lf 3)) (q + 1) f
section WALK3
variable {l : Launch} {D : va_G} {ad : Nat → Nat} {dB dI : ClassId}
theorem t_ownRootA (x : St) {post : St → Prop} (hp : post x) (hB : Bd x) (h1 : xru x (xwk x) = 1) : TMv l yX0_ownRoot cX0_ownRoot 5 1 D (tyT dB dI) [.ref (ad 0)] (wT ad dB dI x) (wT ad dB dI) post := by
  refine TMv.of (by decide) (Nat.le_of_ble_eq_true rfl) (fun p e s m below meth c A C => ?_)
  obtain ⟨blu, bls, blk, bru, brs, brl, bvr, bwk⟩ := hB
  refine tw_aload_n C dX0_ownRoot_0 rfl ?_
  refine tt_get_ru C dX0_ownRoot_1 ?_
  refine tw_aload_n C dX0_ownRoot_4 rfl ?_
  refine tt_get_wk C (xwk x) dX0_ownRoot_5 rfl ?_
  refine tt_ld_ru C 1 dX0_ownRoot_8 (by omega) h1 ?_
  refine tw_iconst C (nI 1) dX0_ownRoot_9 (by decide) ?_
  refine tn_icmp_ne C 14 dX0_ownRoot_10 (by decide) (by omega) (by omega)  (fun h => ?_) (fun h => ?_)
  · exact absurd rfl h
  · exact tw_vret C x dX0_ownRoot_13 rfl hp
theorem t_ownRootB (x : St) (f : Nat) {post : St → Prop} (hp : post (ownR x f)) (hB : Bd x) (hf : f < 8) (h0 : xru x f = 0) (hm : ∀ j, j < f → xru x j ≠ 0) (h2 : 2 ≤ xru x (xwk x)) (hu : ∀ v, xlu x v + cntp (lvs x (xwk x)) (xrs x (xwk x)) v < 128) : TMv l yX0_ownRoot cX0_ownRoot 5 1 D (tyT dB dI) [.ref (ad 0)] (wT ad dB dI x) (wT ad dB dI) post := by
  refine TMv.of (by decide) (Nat.le_of_ble_eq_true rfl) (fun p e s m below meth c A C => ?_)
  have hB0 := hB
  obtain ⟨blu, bls, blk, bru, brs, brl, bvr, bwk⟩ := hB
  have hne : xwk x ≠ f := fun e => by rw [e] at h2; omega
  have b1 := bru (xwk x)
  have b2 := brs (xwk x)
  refine tw_aload_n C dX0_ownRoot_0 rfl ?_
  refine tt_get_ru C dX0_ownRoot_1 ?_
  refine tw_aload_n C dX0_ownRoot_4 rfl ?_
  refine tt_get_wk C (xwk x) dX0_ownRoot_5 rfl ?_
  refine tt_ld_ru C _ dX0_ownRoot_8 (by omega) rfl ?_
  refine tw_iconst C (nI 1) dX0_ownRoot_9 (by decide) ?_
  refine tn_icmp_ne C 14 dX0_ownRoot_10 (by decide) (by omega) (by omega)  (fun h => ?_) (fun h => ?_)
  · refine tw_aload_n C dX0_ownRoot_14 rfl ?_
    refine tt_get_wk C (xwk x) dX0_ownRoot_15 rfl ?_
    refine tw_istore_n C dX0_ownRoot_18 (by decide) rfl ?_
    refine tw_aload_n C dX0_ownRoot_19 rfl ?_
    refine tt_calli0 C (t_freshRoot x f hB0 hf h0 hm) rfl q76 q78 qs1 q79 (by decide +kernel) (by decide) (by decide) (Nat.le_of_ble_eq_true rfl) dX0_ownRoot_20  (fun r u hu0 => ?_)
    obtain ⟨rfl, rfl⟩ := hu0
    refine tw_istore_n C dX0_ownRoot_23 (by decide) rfl ?_
    refine tw_aload_n C dX0_ownRoot_24 rfl ?_
    refine tt_get_rs C dX0_ownRoot_25 ?_
    refine tw_iload_n C dX0_ownRoot_28 rfl ?_
    refine tw_aload_n C dX0_ownRoot_29 rfl ?_
    refine tt_get_rs C dX0_ownRoot_30 ?_
    refine tw_iload_n C dX0_ownRoot_33 rfl ?_
    refine tt_ld_rs C (xrs x (xwk x)) dX0_ownRoot_34 (by omega) (updN_ne hne) ?_
    refine tt_st_rs C dX0_ownRoot_35 (by omega) (by omega) ?_
    refine tw_iconst C (nI 0) dX0_ownRoot_36 (by decide) ?_
    refine tw_istore_n C dX0_ownRoot_37 (by decide) rfl ?_
    refine tt_st (y := slu (srl (srs (sru x (updN (xru x) f 1)) (updN (xrs x) f (xrs x (xwk x)))) (cpy (xrl x) (xwk x * 17) (f * 17) 0)) (fun v => xlu x v + cntp (lvs x (xwk x)) 0 v)) ?_ ?_
    · show srs (frR x f) (updN (updN (xrs x) f 0) f (xrs x (xwk x))) = _
      rw [updN_updN, cpy_0]
      rfl
    refine tw_loop (fun i => wT ad dB dI (slu (srl (srs (sru x (updN (xru x) f 1)) (updN (xrs x) f (xrs x (xwk x)))) (cpy (xrl x) (xwk x * 17) (f * 17) i)) (fun v => xlu x v + cntp (lvs x (xwk x)) i v))) (fun i => [(0, .ref (ad 0)), (1, .int (nI (xwk x))), (2, .int (nI f)), (3, .int (nI i))]) (fun i => i ≤ xrs x (xwk x)) (fun i => xrs x (xwk x) - i) ?_ 0 (Nat.zero_le _)
    intro i hi ih
    refine tw_iload_n C dX0_ownRoot_38 rfl ?_
    refine tw_aload_n C dX0_ownRoot_39 rfl ?_
    refine tt_get_rs C dX0_ownRoot_40 ?_
    refine tw_iload_n C dX0_ownRoot_43 rfl ?_
    refine tt_ld_rs C (xrs x (xwk x)) dX0_ownRoot_44 (by omega) (updN_ne hne) ?_
    refine tn_icmp_ge C 93 dX0_ownRoot_45 (by decide) (by omega) (by omega)  (fun h => ?_) (fun h => ?_)
    · have he : i = xrs x (xwk x) := by omega
      subst he
      refine tw_aload_n C dX0_ownRoot_93 rfl ?_
      refine tw_iload_n C dX0_ownRoot_94 rfl ?_
      have hru : xru (slu (srl (srs (sru x (updN (xru x) f 1)) (updN (xrs x) f (xrs x (xwk x)))) (cpy (xrl x) (xwk x * 17) (f * 17) (xrs x (xwk x)))) (fun v => xlu x v + cntp (lvs x (xwk x)) (xrs x (xwk x)) v)) (xwk x) = xru x (xwk x) := updN_ne hne
      refine tt_callv1 C (t_release (slu (srl (srs (sru x (updN (xru x) f 1)) (updN (xrs x) f (xrs x (xwk x)))) (cpy (xrl x) (xwk x * 17) (f * 17) (xrs x (xwk x)))) (fun v => xlu x v + cntp (lvs x (xwk x)) (xrs x (xwk x)) v)) (xwk x) (Bd_lu (Bd_rl (Bd_rs (Bd_ru hB0 (updN_lt bru (by decide))) (updN_le brs b2)) (cpy_lt brl)) hu) bwk (by rw [hru]; omega) (fun e => absurd e (by rw [hru]; omega))) rfl q80 q82 qs2 q83 (by decide +kernel) (by decide) (by decide) (Nat.le_of_ble_eq_true rfl) dX0_ownRoot_95  (fun u hu0 => ?_)
      subst hu0
      refine tw_aload_n C dX0_ownRoot_98 rfl ?_
      refine tw_iload_n C dX0_ownRoot_99 rfl ?_
      refine tt_put_wk C dX0_ownRoot_100 ?_
      refine tw_vret C (ownR x f) dX0_ownRoot_103 (congrArg (wT ad dB dI) ?_) hp
      unfold relS
      rw [if_neg (by rw [hru]; omega), hru]
      rfl
    · have b3 : lvs x (xwk x) i < 96 := brl _
      have b4 := hu (lvs x (xwk x) i)
      have b5 := cntp_mono (lvs x (xwk x)) (lvs x (xwk x) i) (show i + 1 ≤ xrs x (xwk x) from h)
      simp only [cntp, if_true] at b5
      refine tw_aload_n C dX0_ownRoot_48 rfl ?_
      refine tt_get_rl C dX0_ownRoot_49 ?_
      refine tw_iload_n C dX0_ownRoot_52 rfl ?_
      refine tw_bipush C (nI 17) dX0_ownRoot_53 (by decide) ?_
      refine tn_imul C dX0_ownRoot_55 ?_
      refine tw_iload_n C dX0_ownRoot_56 rfl ?_
      refine tn_iadd C dX0_ownRoot_57 ?_
      refine tt_ld_rl C (lvs x (xwk x) i) dX0_ownRoot_58 (by omega) (cpy_out _ (by omega)) ?_
      refine tw_istore C dX0_ownRoot_59 (by decide) rfl ?_
      refine tw_aload_n C dX0_ownRoot_61 rfl ?_
      refine tt_get_rl C dX0_ownRoot_62 ?_
      refine tw_iload_n C dX0_ownRoot_65 rfl ?_
      refine tw_bipush C (nI 17) dX0_ownRoot_66 (by decide) ?_
      refine tn_imul C dX0_ownRoot_68 ?_
      refine tw_iload_n C dX0_ownRoot_69 rfl ?_
      refine tn_iadd C dX0_ownRoot_70 ?_
      refine tw_iload C dX0_ownRoot_71 rfl ?_
      refine tn_i2b C dX0_ownRoot_73 (by omega) ?_
      refine tt_st_rl C dX0_ownRoot_74 (by omega) (by omega) ?_
      refine tw_aload_n C dX0_ownRoot_75 rfl ?_
      refine tt_get_lu C dX0_ownRoot_76 ?_
      refine tw_iload C dX0_ownRoot_79 rfl ?_
      refine tw_dup2 C dX0_ownRoot_81 rfl rfl ?_
      refine tt_ld_lu C (xlu x (lvs x (xwk x) i) + cntp (lvs x (xwk x)) i (lvs x (xwk x) i)) dX0_ownRoot_82 (by omega) rfl ?_
      refine tw_iconst C (nI 1) dX0_ownRoot_83 (by decide) ?_
      refine tn_iadd C dX0_ownRoot_84 ?_
      refine tn_i2b C dX0_ownRoot_85 (by omega) ?_
      refine tt_st_lu C dX0_ownRoot_86 (by omega) (by omega) ?_
      refine tn_inc C dX0_ownRoot_87 rfl (by decide) rfl ?_
      refine tw_goto C 38 dX0_ownRoot_90 (by decide) ?_
      refine tw_pick [0, 1, 2, 3] rfl ?_
      refine tt_st ?_ (ih (i + 1) (by omega) (by omega))
      rw [← cpy_stepN, ← cntp_incs]
      rfl
  · omega
theorem t_ownLeafA (x : St) (q : Nat) {post : Int32 → St → Prop} (hp : post (nI (lvs x (xwk x) q)) x) (hB : Bd x) (hq : q < 17) (h1 : xlu x (lvs x (xwk x) q) = 1) : TMi l yX0_ownLeaf cX0_ownLeaf 5 (some .int) 1 D (tyT dB dI) [.ref (ad 0), .int (nI q)] (wT ad dB dI x) (wT ad dB dI) post := by
  refine TMi.of (by decide) (Nat.le_of_ble_eq_true rfl) (fun p e s m below meth c A C => ?_)
  obtain ⟨blu, bls, blk, bru, brs, brl, bvr, bwk⟩ := hB
  have b3 : lvs x (xwk x) q < 96 := brl _
  refine tw_aload_n C dX0_ownLeaf_0 rfl ?_
  refine tt_get_rl C dX0_ownLeaf_1 ?_
  refine tw_aload_n C dX0_ownLeaf_4 rfl ?_
  refine tt_get_wk C (xwk x) dX0_ownLeaf_5 rfl ?_
  refine tw_bipush C (nI 17) dX0_ownLeaf_8 (by decide) ?_
  refine tn_imul C dX0_ownLeaf_10 ?_
  refine tw_iload_n C dX0_ownLeaf_11 rfl ?_
  refine tn_iadd C dX0_ownLeaf_12 ?_
  refine tt_ld_rl C (lvs x (xwk x) q) dX0_ownLeaf_13 (by omega) rfl ?_
  refine tw_istore_n C dX0_ownLeaf_14 (by decide) rfl ?_
  refine tw_aload_n C dX0_ownLeaf_15 rfl ?_
  refine tt_get_lu C dX0_ownLeaf_16 ?_
  refine tw_iload_n C dX0_ownLeaf_19 rfl ?_
  refine tt_ld_lu C 1 dX0_ownLeaf_20 (by omega) h1 ?_
  refine tw_iconst C (nI 1) dX0_ownLeaf_21 (by decide) ?_
  refine tn_icmp_ne C 27 dX0_ownLeaf_22 (by decide) (by omega) (by omega)  (fun h => ?_) (fun h => ?_)
  · exact absurd rfl h
  · refine tw_iload_n C dX0_ownLeaf_25 rfl ?_
    exact tw_iret C x dX0_ownLeaf_26 rfl rfl hp
theorem t_ownLeafB (x : St) (q f : Nat) {post : Int32 → St → Prop} (hp : post (nI f) (ownL x q f)) (hB : Bd x) (hq : q < 17) (hf : f < 96) (h0 : xlu x f = 0) (hm : ∀ j, j < f → xlu x j ≠ 0) (h2 : 2 ≤ xlu x (lvs x (xwk x) q)) : TMi l yX0_ownLeaf cX0_ownLeaf 5 (some .int) 1 D (tyT dB dI) [.ref (ad 0), .int (nI q)] (wT ad dB dI x) (wT ad dB dI) post := by
  refine TMi.of (by decide) (Nat.le_of_ble_eq_true rfl) (fun p e s m below meth c A C => ?_)
  have hB0 := hB
  obtain ⟨blu, bls, blk, bru, brs, brl, bvr, bwk⟩ := hB
  have b3 : lvs x (xwk x) q < 96 := brl _
  unfold ownL at hp
  generalize hold : lvs x (xwk x) q = old at b3 h2 hp
  have hne : old ≠ f := fun e => by rw [e] at h2; omega
  have b1 := blu old
  have b2 := bls old
  refine tw_aload_n C dX0_ownLeaf_0 rfl ?_
  refine tt_get_rl C dX0_ownLeaf_1 ?_
  refine tw_aload_n C dX0_ownLeaf_4 rfl ?_
  refine tt_get_wk C (xwk x) dX0_ownLeaf_5 rfl ?_
  refine tw_bipush C (nI 17) dX0_ownLeaf_8 (by decide) ?_
  refine tn_imul C dX0_ownLeaf_10 ?_
  refine tw_iload_n C dX0_ownLeaf_11 rfl ?_
  refine tn_iadd C dX0_ownLeaf_12 ?_
  refine tt_ld_rl C old dX0_ownLeaf_13 (by omega) hold ?_
  refine tw_istore_n C dX0_ownLeaf_14 (by decide) rfl ?_
  refine tw_aload_n C dX0_ownLeaf_15 rfl ?_
  refine tt_get_lu C dX0_ownLeaf_16 ?_
  refine tw_iload_n C dX0_ownLeaf_19 rfl ?_
  refine tt_ld_lu C _ dX0_ownLeaf_20 (by omega) rfl ?_
  refine tw_iconst C (nI 1) dX0_ownLeaf_21 (by decide) ?_
  refine tn_icmp_ne C 27 dX0_ownLeaf_22 (by decide) (by omega) (by omega)  (fun h => ?_) (fun h => ?_)
  · refine tw_aload_n C dX0_ownLeaf_27 rfl ?_
    refine tt_calli0 C (t_freshLeaf x f hB0 hf h0 hm) rfl q88 q90 qs4 q91 (by decide +kernel) (by decide) (by decide) (Nat.le_of_ble_eq_true rfl) dX0_ownLeaf_28  (fun r u hu0 => ?_)
    obtain ⟨rfl, rfl⟩ := hu0
    refine tw_istore_n C dX0_ownLeaf_31 (by decide) rfl ?_
    refine tw_aload_n C dX0_ownLeaf_32 rfl ?_
    refine tt_get_ls C dX0_ownLeaf_33 ?_
    refine tw_iload_n C dX0_ownLeaf_36 rfl ?_
    refine tw_aload_n C dX0_ownLeaf_37 rfl ?_
    refine tt_get_ls C dX0_ownLeaf_38 ?_
    refine tw_iload_n C dX0_ownLeaf_41 rfl ?_
    refine tt_ld_ls C (xls x old) dX0_ownLeaf_42 (by omega) (updN_ne hne) ?_
    refine tt_st_ls C dX0_ownLeaf_43 (by omega) (by omega) ?_
    refine tw_iconst C (nI 0) dX0_ownLeaf_44 (by decide) ?_
    refine tw_istore C dX0_ownLeaf_45 (by decide) rfl ?_
    refine tt_st (y := slv (slk (sls (slu x (updN (xlu x) f 1)) (updN (xls x) f (xls x old))) (cpy (xlk x) (old * 5) (f * 5) 0)) (cpy (xlv x) (old * 5) (f * 5) 0)) ?_ ?_
    · show sls (frL x f) (updN (updN (xls x) f 0) f (xls x old)) = _
      rw [updN_updN, cpy_0, cpy_0]
      rfl
    refine tw_loop (fun i => wT ad dB dI (slv (slk (sls (slu x (updN (xlu x) f 1)) (updN (xls x) f (xls x old))) (cpy (xlk x) (old * 5) (f * 5) i)) (cpy (xlv x) (old * 5) (f * 5) i))) (fun i => [(0, .ref (ad 0)), (1, .int (nI q)), (2, .int (nI old)), (3, .int (nI f)), (4, .int (nI i))]) (fun i => i ≤ xls x old) (fun i => xls x old - i) ?_ 0 (Nat.zero_le _)
    intro i hi ih
    refine tw_iload C dX0_ownLeaf_47 rfl ?_
    refine tw_aload_n C dX0_ownLeaf_49 rfl ?_
    refine tt_get_ls C dX0_ownLeaf_50 ?_
    refine tw_iload_n C dX0_ownLeaf_53 rfl ?_
    refine tt_ld_ls C (xls x old) dX0_ownLeaf_54 (by omega) (updN_ne hne) ?_
    refine tn_icmp_ge C 74 dX0_ownLeaf_55 (by decide) (by omega) (by omega)  (fun h => ?_) (fun h => ?_)
    · have he : i = xls x old := by omega
      subst he
      refine tw_aload_n C dX0_ownLeaf_74 rfl ?_
      refine tt_get_lu C dX0_ownLeaf_75 ?_
      refine tw_iload_n C dX0_ownLeaf_78 rfl ?_
      refine tw_dup2 C dX0_ownLeaf_79 rfl rfl ?_
      refine tt_ld_lu C (xlu x old) dX0_ownLeaf_80 (by omega) (updN_ne hne) ?_
      refine tw_iconst C (nI 1) dX0_ownLeaf_81 (by decide) ?_
      refine tn_isub C dX0_ownLeaf_82 (by omega) ?_
      refine tn_i2b C dX0_ownLeaf_83 (by omega) ?_
      refine tt_st_lu C dX0_ownLeaf_84 (by omega) (by omega) ?_
      refine tw_aload_n C dX0_ownLeaf_85 rfl ?_
      refine tt_get_rl C dX0_ownLeaf_86 ?_
      refine tw_aload_n C dX0_ownLeaf_89 rfl ?_
      refine tt_get_wk C (xwk x) dX0_ownLeaf_90 rfl ?_
      refine tw_bipush C (nI 17) dX0_ownLeaf_93 (by decide) ?_
      refine tn_imul C dX0_ownLeaf_95 ?_
      refine tw_iload_n C dX0_ownLeaf_96 rfl ?_
      refine tn_iadd C dX0_ownLeaf_97 ?_
      refine tw_iload_n C dX0_ownLeaf_98 rfl ?_
      refine tn_i2b C dX0_ownLeaf_99 (by omega) ?_
      refine tt_st_rl C dX0_ownLeaf_100 (by omega) (by omega) ?_
      refine tw_iload_n C dX0_ownLeaf_101 rfl ?_
      exact tw_iret C _ dX0_ownLeaf_102 rfl rfl hp
    · refine tw_aload_n C dX0_ownLeaf_58 rfl ?_
      refine tw_iload_n C dX0_ownLeaf_59 rfl ?_
      refine tw_iload C dX0_ownLeaf_60 rfl ?_
      refine tw_iload_n C dX0_ownLeaf_62 rfl ?_
      refine tw_iload C dX0_ownLeaf_63 rfl ?_
      refine tt_callv4 C (t_copyEntry (slv (slk (sls (slu x (updN (xlu x) f 1)) (updN (xls x) f (xls x old))) (cpy (xlk x) (old * 5) (f * 5) i)) (cpy (xlv x) (old * 5) (f * 5) i)) old i f i (Bd_lv (Bd_lk (Bd_ls (Bd_lu hB0 (updN_lt blu (by decide))) (updN_le bls b2)) (cpy_lt blk))) (by omega) (by omega)) rfl q100 q102 qs7 q103 (by decide +kernel) (by decide) (by decide) (Nat.le_of_ble_eq_true rfl) dX0_ownLeaf_65  (fun u hu0 => ?_)
      subst hu0
      refine tn_inc C dX0_ownLeaf_68 rfl (by decide) rfl ?_
      refine tw_goto C 47 dX0_ownLeaf_71 (by decide) ?_
      refine tt_st ?_ (ih (i + 1) (by omega) (by omega))
      unfold cpE
      rw [show xlk (slv (slk (sls (slu x (updN (xlu x) f 1)) (updN (xls x) f (xls x old))) (cpy (xlk x) (old * 5) (f * 5) i)) (cpy (xlv x) (old * 5) (f * 5) i)) (old * 5 + i) = xlk x (old * 5 + i) from cpy_out _ (by omega), show xlv (slv (slk (sls (slu x (updN (xlu x) f 1)) (updN (xls x) f (xls x old))) (cpy (xlk x) (old * 5) (f * 5) i)) (cpy (xlv x) (old * 5) (f * 5) i)) (old * 5 + i) = xlv x (old * 5 + i) from cpy_out _ (by omega), ← cpy_stepN, ← cpy_stepI]
  · omega
theorem t_split (x : St) (q lf f : Nat) (hB : Bd x) (hl : lf < 96) (hq : q + 1 ≤ xrs x (xwk x)) (hs : xrs x (xwk x) ≤ 16) (hf : f < 96) (h0 : xlu x f = 0) (hm : ∀ j, j < f → xlu x j ≠ 0) : TMv l yX0_split cX0_split 4 1 D (tyT dB dI) [.ref (ad 0), .int (nI q), .int (nI lf)] (wT ad dB dI x) (wT ad dB dI) (fun u => u = splS x q lf f) := by
  refine TMv.of (by decide) (Nat.le_of_ble_eq_true rfl) (fun p e s m below meth c A C => ?_)
  have hB0 := hB
  obtain ⟨blu, bls, blk, bru, brs, brl, bvr, bwk⟩ := hB
  refine tw_aload_n C dX0_split_0 rfl ?_
  refine tt_calli0 C (t_freshLeaf x f hB0 hf h0 hm) rfl q88 q90 qs4 q91 (by decide +kernel) (by decide) (by decide) (Nat.le_of_ble_eq_true rfl) dX0_split_1  (fun r u hu0 => ?_)
  obtain ⟨rfl, rfl⟩ := hu0
  refine tw_istore_n C dX0_split_4 (by decide) rfl ?_
  refine tw_aload_n C dX0_split_5 rfl ?_
  refine tw_iload_n C dX0_split_6 rfl ?_
  refine tw_iconst C (nI 3) dX0_split_7 (by decide) ?_
  refine tw_iload_n C dX0_split_8 rfl ?_
  refine tw_iconst C (nI 0) dX0_split_9 (by decide) ?_
  refine tt_callv4 C (t_copyEntry (frL x f) lf 3 f 0 (Bd_frL hB0) (by omega) (by omega)) rfl q100 q102 qs7 q103 (by decide +kernel) (by decide) (by decide) (Nat.le_of_ble_eq_true rfl) dX0_split_10  (fun u hu0 => ?_)
  subst hu0
  refine tw_aload_n C dX0_split_13 rfl ?_
  refine tw_iload_n C dX0_split_14 rfl ?_
  refine tw_iconst C (nI 4) dX0_split_15 (by decide) ?_
  refine tw_iload_n C dX0_split_16 rfl ?_
  refine tw_iconst C (nI 1) dX0_split_17 (by decide) ?_
  refine tt_callv4 C (t_copyEntry (cpE (frL x f) lf 3 f 0) lf 4 f 1 (Bd_cpE (Bd_frL hB0)) (by omega) (by omega)) rfl q100 q102 qs7 q103 (by decide +kernel) (by decide) (by decide) (Nat.le_of_ble_eq_true rfl) dX0_split_18  (fun u hu0 => ?_)
  subst hu0
  refine tw_aload_n C dX0_split_21 rfl ?_
  refine tt_get_ls C dX0_split_22 ?_
  refine tw_iload_n C dX0_split_25 rfl ?_
  refine tw_iconst C (nI 2) dX0_split_26 (by decide) ?_
  refine tt_st_ls C dX0_split_27 (by omega) (by omega) ?_
  refine tw_aload_n C dX0_split_28 rfl ?_
  refine tt_get_ls C dX0_split_29 ?_
  refine tw_iload_n C dX0_split_32 rfl ?_
  refine tw_iconst C (nI 3) dX0_split_33 (by decide) ?_
  refine tt_st_ls C dX0_split_34 (by omega) (by omega) ?_
  refine tw_aload_n C dX0_split_35 rfl ?_
  refine tw_iload_n C dX0_split_36 rfl ?_
  refine tw_iconst C (nI 1) dX0_split_37 (by decide) ?_
  refine tn_iadd C dX0_split_38 ?_
  refine tw_iload_n C dX0_split_39 rfl ?_
  refine tt_st (y := sls (cpE (cpE (frL x f) lf 3 f 0) lf 4 f 1) (updN (updN (xls x) f 2) lf 3)) ?_ ?_
  · show sls (cpE (cpE (frL x f) lf 3 f 0) lf 4 f 1) (updN (updN (updN (xls x) f 0) f 2) lf 3) = _
    rw [updN_updN]
  refine tt_callv2 C (t_insertLeaf (sls (cpE (cpE (frL x f) lf 3 f 0) lf 4 f 1) (updN (updN (xls x) f 2) lf 3)) (q + 1) f (Bd_ls (Bd_cpE (Bd_cpE (Bd_frL hB0))) (updN_le (updN_le bls (by decide)) (by decide))) hq hs hf) rfl q92 q94 qs5 q95 (by decide +kernel) (by decide) (by decide) (Nat.le_of_ble_eq_true rfl) dX0_split_40  (fun u hu0 => ?_)
  subst hu0
  exact tw_vret C _ dX0_split_43 rfl rfl
end WALK3
end
section
/-! lists out of arrays -/
def mapR {α : Type} (n : Nat) (g : Nat → α) : List α := (List.range n).map g
theorem mapR_succ {α : Type} (n : Nat) (g : Nat → α) : mapR (n + 1) g = mapR n g ++ [g n] := by
  unfold mapR
  rw [List.range_succ, List.map_append]
  rfl
theorem mapR_add {α : Type} (a b : Nat) (g : Nat → α) : mapR (a + b) g = mapR a g ++ mapR b (fun i => g (a + i)) := by
  induction b with
  | zero => simp [mapR]
  | succ b ih => rw [← Nat.add_assoc, mapR_succ, ih, mapR_succ, List.append_assoc]
theorem mapR_congr {α : Type} {n : Nat} {f g : Nat → α} (h : ∀ i, i < n → f i = g i) : mapR n f = mapR n g := by
  unfold mapR
  exact List.map_congr_left (fun i hi => h i (List.mem_range.mp hi))
theorem mapR_len {α : Type} (n : Nat) (g : Nat → α) : (mapR n g).length = n := by simp [mapR]
theorem mapR_get {α : Type} {n i : Nat} (g : Nat → α) (h : i < n) : (mapR n g)[i]? = some (g i) := by simp [mapR, h]
theorem mapR_mem {α : Type} {n : Nat} {g : Nat → α} {a : α} : a ∈ mapR n g ↔ ∃ i, i < n ∧ g i = a := by simp [mapR]
def ent (x : St) (lf : Nat) (i : Nat) : Nat × Int32 := (xlk x (lf * 5 + i), xlv x (lf * 5 + i))
def EL (x : St) (lf : Nat) : List (Nat × Int32) := mapR (xls x lf) (ent x lf)
def FLn (x : St) (r : Nat) (n : Nat) : List (Nat × Int32) := (mapR n (fun i => EL x (lvs x r i))).flatten
def SH (x : St) (r : Nat) : List (List (Nat × Int32)) := mapR (xrs x r) (fun i => EL x (lvs x r i))
def FL (x : St) (r : Nat) : List (Nat × Int32) := (SH x r).flatten
theorem FLn_succ (x : St) (r n : Nat) : FLn x r (n + 1) = FLn x r n ++ EL x (lvs x r n) := by
  unfold FLn
  rw [mapR_succ, List.flatten_append]
  simp
theorem EL_len (x : St) (lf : Nat) : (EL x lf).length = xls x lf := mapR_len _ _
theorem FLn_len (x : St) (r n : Nat) : (FLn x r (n + 1)).length = (FLn x r n).length + xls x (lvs x r n) := by
  rw [FLn_succ, List.length_append, EL_len]
theorem FL_split (x : St) (r : Nat) {p : Nat} (h : p < xrs x r) : ∃ B, FL x r = FLn x r p ++ EL x (lvs x r p) ++ B := by
  refine ⟨(mapR (xrs x r - (p + 1)) (fun i => EL x (lvs x r (p + 1 + i)))).flatten, ?_⟩
  rw [← FLn_succ]
  unfold FL SH FLn
  conv => lhs; rw [show xrs x r = (p + 1) + (xrs x r - (p + 1)) by omega]
  rw [mapR_add, List.flatten_append]
theorem FL_get (x : St) (r : Nat) {p N : Nat} (h : p < xrs x r) (h1 : (FLn x r p).length ≤ N) (h2 : N - (FLn x r p).length < xls x (lvs x r p)) : (FL x r)[N]? = some (ent x (lvs x r p) (N - (FLn x r p).length)) := by
  obtain ⟨B, hB⟩ := FL_split x r h
  rw [hB, List.append_assoc, List.getElem?_append_right h1, List.getElem?_append_left (by rw [EL_len]; exact h2)]
  exact mapR_get _ h2
theorem FLn_le (x : St) (r : Nat) {p : Nat} (h : p < xrs x r) : (FLn x r p).length + xls x (lvs x r p) ≤ (FL x r).length := by
  obtain ⟨B, hB⟩ := FL_split x r h
  rw [hB, List.length_append, List.length_append, EL_len]
  omega
theorem FLn_bd (x : St) (hB : Bd x) (r n : Nat) : (FLn x r n).length ≤ 5 * n := by
  induction n with
  | zero => exact Nat.le_refl _
  | succ n ih =>
    rw [FLn_len]
    have := hB.2.1 (lvs x r n)
    omega
def oI : Option Nat → Int32
  | some c => nI c
  | none => -1
def rtO (x : St) (n : Int32) : Option Nat := if n = 0 then some (xwk x) else if ¬ n < nI (xfk x) ∧ ¬ nI (xla x) < n then some (xvr x (vix n)) else none
theorem rt_of {x : St} {n a : Int32} (h : (n = 0 ∧ a = nI (xwk x)) ∨ (n ≠ 0 ∧ keptP x n ∧ a = nI (xvr x (vix n))) ∨ (n ≠ 0 ∧ ¬ keptP x n ∧ a = -1)) : a = oI (rtO x n) := by
  unfold rtO
  unfold keptP at h
  rcases h with ⟨h, e⟩ | ⟨h, h2, e⟩ | ⟨h, h2, e⟩
  · rw [if_pos h]; exact e
  · rw [if_neg h, if_pos h2]; exact e
  · rw [if_neg h, if_neg h2]; exact e
theorem rtO_lt {x : St} {n : Int32} {r : Nat} (hB : Bd x) (h : rtO x n = some r) : r < 8 := by
  unfold rtO at h
  by_cases h1 : n = 0
  · rw [if_pos h1] at h
    cases h
    exact hB.2.2.2.2.2.2.2
  · rw [if_neg h1] at h
    by_cases h2 : ¬ n < nI (xfk x) ∧ ¬ nI (xla x) < n
    · rw [if_pos h2] at h
      cases h
      exact hB.2.2.2.2.2.2.1 _
    · rw [if_neg h2] at h
      cases h
def celO (x : St) (r : Nat) (k : Int32) : Option Nat :=
  if xrs x r = 0 then none else
  if bel x (lvs x r (plc x r k (xrs x r - 1))) k < xls x (lvs x r (plc x r k (xrs x r - 1))) ∧ nI (xlk x (lvs x r (plc x r k (xrs x r - 1)) * 5 + bel x (lvs x r (plc x r k (xrs x r - 1))) k)) = k then some (lvs x r (plc x r k (xrs x r - 1)) * 5 + bel x (lvs x r (plc x r k (xrs x r - 1))) k) else none
theorem celI_O (x : St) (r : Nat) (k : Int32) : celI x r k = oI (celO x r k) := by
  unfold celI celO
  by_cases h : xrs x r = 0
  · rw [if_pos h, if_pos h]; rfl
  · rw [if_neg h, if_neg h]
    by_cases h2 : bel x (lvs x r (plc x r k (xrs x r - 1))) k < xls x (lvs x r (plc x r k (xrs x r - 1))) ∧ nI (xlk x (lvs x r (plc x r k (xrs x r - 1)) * 5 + bel x (lvs x r (plc x r k (xrs x r - 1))) k)) = k
    · rw [if_pos h2, if_pos h2]; rfl
    · rw [if_neg h2, if_neg h2]; rfl
theorem celO_lt {x : St} {r c : Nat} {k : Int32} (hB : Bd x) (h : celO x r k = some c) : c < 480 := by
  unfold celO at h
  by_cases h0 : xrs x r = 0
  · rw [if_pos h0] at h; cases h
  · rw [if_neg h0] at h
    by_cases h2 : bel x (lvs x r (plc x r k (xrs x r - 1))) k < xls x (lvs x r (plc x r k (xrs x r - 1))) ∧ nI (xlk x (lvs x r (plc x r k (xrs x r - 1)) * 5 + bel x (lvs x r (plc x r k (xrs x r - 1))) k)) = k
    · rw [if_pos h2] at h
      cases h
      have b1 : lvs x r (plc x r k (xrs x r - 1)) < 96 := hB.2.2.2.2.2.1 _
      have b2 := hB.2.1 (lvs x r (plc x r k (xrs x r - 1)))
      have b3 := h2.1
      omega
    · rw [if_neg h2] at h; cases h
def rkN (x : St) (r : Nat) (k : Int32) : Nat := if xrs x r = 0 then 0 else (FLn x r (plc x r k (xrs x r - 1))).length + bel x (lvs x r (plc x r k (xrs x r - 1))) k
def hasV (x : St) (n k : Int32) : Int32 := (rtO x n).elim 0 (fun r => (celO x r k).elim 0 (fun _ => 1))
def getV (x : St) (n k : Int32) : Int32 := (rtO x n).elim 0 (fun r => (celO x r k).elim 0 (fun c => xlv x c))
def cntV (x : St) (n : Int32) : Int32 := (rtO x n).elim (-1) (fun r => nI (FL x r).length)
def kaV (x : St) (n i : Int32) : Int32 := (rtO x n).elim (-1) (fun r => if i < 0 then -1 else ((FL x r)[i.toNatClampNeg]?).elim (-1) (fun e => nI e.1))
def rkV (x : St) (n k : Int32) : Int32 := (rtO x n).elim (-1) (fun r => nI (rkN x r k))
def frV (x : St) (n k : Int32) : Int32 := if rkV x n k < 0 then -1 else kaV x n (rkV x n k)
def utV (x : St) (n k : Int32) : Int32 := (rtO x n).elim (-1) (fun r => (celO x r k).elim (kaV x n (rkV x n k - 1)) (fun _ => k))
def sumF (a b : Int32) (L : List (Nat × Int32)) (s : Int32) : Int32 := L.foldl (fun s e => s + (if ¬ nI e.1 < a ∧ ¬ b < nI e.1 then e.2 else 0)) s
def smV (x : St) (n a b : Int32) : Int32 := (rtO x n).elim 0 (fun r => sumF a b (FL x r) 0)
def orF (L : List (Nat × Int32)) (s : Int32) : Int32 := L.foldl (fun s e => s ||| (nI 1 <<< (nI e.1 &&& 31))) s
def ksV (x : St) (n : Int32) : Int32 := (rtO x n).elim 0 (fun r => orF (FL x r) 0)
def sameB (x : St) (o : Nat) (e : Nat × Int32) : Bool := (celO x o (nI e.1)).elim false (fun c => decide (xlv x c = e.2))
def misF (x : St) (o : Nat) (L : List (Nat × Int32)) (s : Int32) : Int32 := L.foldl (fun s e => if sameB x o e = true then s else s ||| (nI 1 <<< (nI e.1 &&& 31))) s
def dfV (x : St) (n m : Int32) : Int32 := (rtO x n).elim 0 (fun r => (rtO x m).elim 0 (fun q => misF x q (FL x r) 0 ||| misF x r (FL x q) 0))
theorem sumF_app (a b : Int32) (L M : List (Nat × Int32)) (s : Int32) : sumF a b (L ++ M) s = sumF a b M (sumF a b L s) := List.foldl_append
theorem orF_app (L M : List (Nat × Int32)) (s : Int32) : orF (L ++ M) s = orF M (orF L s) := List.foldl_append
theorem misF_app (x : St) (o : Nat) (L M : List (Nat × Int32)) (s : Int32) : misF x o (L ++ M) s = misF x o M (misF x o L s) := List.foldl_append
theorem misF_or (x : St) (o : Nat) (L : List (Nat × Int32)) : ∀ s t : Int32, misF x o L (t ||| s) = t ||| misF x o L s := by
  induction L with
  | nil => intro s t; rfl
  | cons e L ih =>
    intro s t
    show misF x o L (if sameB x o e = true then t ||| s else t ||| s ||| (nI 1 <<< (nI e.1 &&& 31))) = t ||| misF x o L (if sameB x o e = true then s else s ||| (nI 1 <<< (nI e.1 &&& 31)))
    by_cases h : sameB x o e = true
    · rw [if_pos h, if_pos h]; exact ih _ _
    · rw [if_neg h, if_neg h, Int32.or_assoc]; exact ih _ _
theorem misF_or0 (x : St) (o : Nat) (L : List (Nat × Int32)) (s : Int32) : s ||| misF x o L 0 = misF x o L s := by
  rw [← misF_or]
  congr 1
  exact Int32.or_zero
theorem misF_skip (x : St) (o : Nat) (L : List (Nat × Int32)) (h : ∀ e ∈ L, sameB x o e = true) : ∀ s : Int32, misF x o L s = s := by
  induction L with
  | nil => intro s; rfl
  | cons e L ih =>
    intro s
    show misF x o L (if sameB x o e = true then s else s ||| (nI 1 <<< (nI e.1 &&& 31))) = s
    rw [if_pos (h e List.mem_cons_self)]
    exact ih (fun e he => h e (List.mem_cons_of_mem _ he)) s
end
section
set_option maxRecDepth 100000
section WALK4
variable {l : Launch} {D : va_G} {ad : Nat → Nat} {dB dI : ClassId}
theorem t_has (x : St) (n k : Int32) (hB : Bd x) : TMi l yX0_has cX0_has 4 (some .boolean) 2 D (tyT dB dI) [.ref (ad 0), .int n, .int k] (wT ad dB dI x) (wT ad dB dI) (fun a u => a = hasV x n k ∧ u = x) := by
  refine TMi.of (by decide) (Nat.le_of_ble_eq_true rfl) (fun p e s m below meth c A C => ?_)
  refine tw_aload_n C dX0_has_0 rfl ?_
  refine tw_iload_n C dX0_has_1 rfl ?_
  refine tt_calli1 C (t_rootOf x n hB) rfl q148 q150 qs14 q151 (by decide +kernel) (by decide) (by decide) (Nat.le_of_ble_eq_true rfl) dX0_has_2  (fun a u hu => ?_)
  obtain ⟨hu, rfl⟩ := hu
  obtain rfl := rt_of hu
  cases ho : rtO u n with
  | none =>
    refine tw_istore_n C dX0_has_5 (by decide) rfl ?_
    refine tw_iload_n C dX0_has_6 rfl ?_
    refine tw_if_lt C 23 dX0_has_7 (by decide)  (fun h => ?_) (fun h => ?_)
    · refine tw_iconst C (nI 0) dX0_has_23 (by decide) ?_
      exact tw_iret C u dX0_has_24 rfl rfl ⟨by unfold hasV; rw [ho]; rfl, rfl⟩
    · exact absurd (by decide) h
  | some r =>
    have hr := rtO_lt hB ho
    refine tw_istore_n C dX0_has_5 (by decide) rfl ?_
    refine tw_iload_n C dX0_has_6 rfl ?_
    refine tn_if_lt C 23 dX0_has_7 (by decide) (by omega) ?_
    refine tw_aload_n C dX0_has_10 rfl ?_
    refine tw_iload_n C dX0_has_11 rfl ?_
    refine tw_iload_n C dX0_has_12 rfl ?_
    refine tt_calli2 C (t_cellOf u r k hB hr) rfl q116 q118 qs10 q119 (by decide +kernel) (by decide) (by decide) (Nat.le_of_ble_eq_true rfl) dX0_has_13  (fun a v hv => ?_)
    obtain ⟨rfl, rfl⟩ := hv
    rw [celI_O]
    cases hc : celO v r k with
    | none =>
      refine tw_if_lt C 23 dX0_has_16 (by decide)  (fun h => ?_) (fun h => ?_)
      · refine tw_iconst C (nI 0) dX0_has_23 (by decide) ?_
        exact tw_iret C v dX0_has_24 rfl rfl ⟨by unfold hasV; rw [ho]; show _ = (celO v r k).elim 0 _; rw [hc]; rfl, rfl⟩
      · exact absurd (by decide) h
    | some q =>
      have hq := celO_lt hB hc
      refine tn_if_lt C 23 dX0_has_16 (by decide) (by omega) ?_
      refine tw_iconst C (nI 1) dX0_has_19 (by decide) ?_
      refine tw_goto C 24 dX0_has_20 (by decide) ?_
      exact tw_iret C v dX0_has_24 rfl rfl ⟨by unfold hasV; rw [ho]; show _ = (celO v r k).elim 0 _; rw [hc]; rfl, rfl⟩
theorem t_get (x : St) (n k : Int32) (hB : Bd x) : TMi l yX0_get cX0_get 5 (some .int) 2 D (tyT dB dI) [.ref (ad 0), .int n, .int k] (wT ad dB dI x) (wT ad dB dI) (fun a u => a = getV x n k ∧ u = x) := by
  refine TMi.of (by decide) (Nat.le_of_ble_eq_true rfl) (fun p e s m below meth c A C => ?_)
  refine tw_aload_n C dX0_get_0 rfl ?_
  refine tw_iload_n C dX0_get_1 rfl ?_
  refine tt_calli1 C (t_rootOf x n hB) rfl q148 q150 qs14 q151 (by decide +kernel) (by decide) (by decide) (Nat.le_of_ble_eq_true rfl) dX0_get_2  (fun a u hu => ?_)
  obtain ⟨hu, rfl⟩ := hu
  obtain rfl := rt_of hu
  cases ho : rtO u n with
  | none =>
    refine tw_istore_n C dX0_get_5 (by decide) rfl ?_
    refine tw_iload_n C dX0_get_6 rfl ?_
    refine tw_if_ge C 14 dX0_get_7 (by decide)  (fun h => ?_) (fun h => ?_)
    · exact absurd h (by decide)
    · refine tw_iconst C (-1) dX0_get_10 (by decide) ?_
      refine tw_goto C 20 dX0_get_11 (by decide) ?_
      refine tw_istore C dX0_get_20 (by decide) rfl ?_
      refine tw_iload C dX0_get_22 rfl ?_
      refine tw_if_ge C 31 dX0_get_24 (by decide)  (fun h => ?_) (fun h => ?_)
      · exact absurd h (by decide)
      · refine tw_iconst C (nI 0) dX0_get_27 (by decide) ?_
        refine tw_goto C 38 dX0_get_28 (by decide) ?_
        exact tw_iret C u dX0_get_38 rfl rfl ⟨by unfold getV; rw [ho]; rfl, rfl⟩
  | some r =>
    have hr := rtO_lt hB ho
    refine tw_istore_n C dX0_get_5 (by decide) rfl ?_
    refine tw_iload_n C dX0_get_6 rfl ?_
    refine tn_if_ge C 14 dX0_get_7 (by decide) (by omega) ?_
    refine tw_aload_n C dX0_get_14 rfl ?_
    refine tw_iload_n C dX0_get_15 rfl ?_
    refine tw_iload_n C dX0_get_16 rfl ?_
    refine tt_calli2 C (t_cellOf u r k hB hr) rfl q116 q118 qs10 q119 (by decide +kernel) (by decide) (by decide) (Nat.le_of_ble_eq_true rfl) dX0_get_17  (fun a v hv => ?_)
    obtain ⟨rfl, rfl⟩ := hv
    rw [celI_O]
    cases hc : celO v r k with
    | none =>
      refine tw_istore C dX0_get_20 (by decide) rfl ?_
      refine tw_iload C dX0_get_22 rfl ?_
      refine tw_if_ge C 31 dX0_get_24 (by decide)  (fun h => ?_) (fun h => ?_)
      · exact absurd h (by decide)
      · refine tw_iconst C (nI 0) dX0_get_27 (by decide) ?_
        refine tw_goto C 38 dX0_get_28 (by decide) ?_
        exact tw_iret C v dX0_get_38 rfl rfl ⟨by unfold getV; rw [ho]; show _ = (celO v r k).elim 0 _; rw [hc]; rfl, rfl⟩
    | some q =>
      have hq := celO_lt hB hc
      refine tw_istore C dX0_get_20 (by decide) rfl ?_
      refine tw_iload C dX0_get_22 rfl ?_
      refine tn_if_ge C 31 dX0_get_24 (by decide) (by omega) ?_
      refine tw_aload_n C dX0_get_31 rfl ?_
      refine tt_get_lv C dX0_get_32 ?_
      refine tw_iload C dX0_get_35 rfl ?_
      refine tt_ld_lv C _ dX0_get_37 (by omega) rfl ?_
      exact tw_iret C v dX0_get_38 rfl rfl ⟨by unfold getV; rw [ho]; show _ = (celO v r k).elim 0 _; rw [hc]; rfl, rfl⟩
theorem t_count (x : St) (n : Int32) (hB : Bd x) : TMi l yX0_count cX0_count 5 (some .int) 2 D (tyT dB dI) [.ref (ad 0), .int n] (wT ad dB dI x) (wT ad dB dI) (fun a u => a = cntV x n ∧ u = x) := by
  refine TMi.of (by decide) (Nat.le_of_ble_eq_true rfl) (fun p e s m below meth c A C => ?_)
  have hB0 := hB
  obtain ⟨blu, bls, blk, bru, brs, brl, bvr, bwk⟩ := hB
  refine tw_aload_n C dX0_count_0 rfl ?_
  refine tw_iload_n C dX0_count_1 rfl ?_
  refine tt_calli1 C (t_rootOf x n hB0) rfl q148 q150 qs14 q151 (by decide +kernel) (by decide) (by decide) (Nat.le_of_ble_eq_true rfl) dX0_count_2  (fun a u hu => ?_)
  obtain ⟨hu, rfl⟩ := hu
  obtain rfl := rt_of hu
  cases ho : rtO u n with
  | none =>
    refine tw_istore_n C dX0_count_5 (by decide) rfl ?_
    refine tw_iload_n C dX0_count_6 rfl ?_
    refine tw_if_ge C 12 dX0_count_7 (by decide)  (fun h => ?_) (fun h => ?_)
    · exact absurd h (by decide)
    · refine tw_iconst C (-1) dX0_count_10 (by decide) ?_
      exact tw_iret C u dX0_count_11 rfl rfl ⟨by unfold cntV; rw [ho]; rfl, rfl⟩
  | some r =>
    have hr := rtO_lt hB0 ho
    have b1 := brs r
    refine tw_istore_n C dX0_count_5 (by decide) rfl ?_
    refine tw_iload_n C dX0_count_6 rfl ?_
    refine tn_if_ge C 12 dX0_count_7 (by decide) (by omega) ?_
    refine tw_iconst C (nI 0) dX0_count_12 (by decide) ?_
    refine tw_istore_n C dX0_count_13 (by decide) rfl ?_
    refine tw_iconst C (nI 0) dX0_count_14 (by decide) ?_
    refine tw_istore C dX0_count_15 (by decide) rfl ?_
    refine tw_loop (fun _ => wT ad dB dI u) (fun i => [(0, .ref (ad 0)), (1, .int n), (2, .int (nI r)), (3, .int (nI (FLn u r i).length)), (4, .int (nI i))]) (fun i => i ≤ xrs u r) (fun i => xrs u r - i) ?_ 0 (Nat.zero_le _)
    intro i hi ih
    refine tw_iload C dX0_count_17 rfl ?_
    refine tw_aload_n C dX0_count_19 rfl ?_
    refine tt_get_rs C dX0_count_20 ?_
    refine tw_iload_n C dX0_count_23 rfl ?_
    refine tt_ld_rs C _ dX0_count_24 (by omega) rfl ?_
    refine tn_icmp_ge C 54 dX0_count_25 (by decide) (by omega) (by omega)  (fun h => ?_) (fun h => ?_)
    · refine tw_iload_n C dX0_count_54 rfl ?_
      have he : i = xrs u r := by omega
      subst he
      exact tw_iret C u dX0_count_55 rfl rfl ⟨by unfold cntV; rw [ho]; rfl, rfl⟩
    · have b3 : lvs u r i < 96 := brl _
      refine tw_iload_n C dX0_count_28 rfl ?_
      refine tw_aload_n C dX0_count_29 rfl ?_
      refine tt_get_ls C dX0_count_30 ?_
      refine tw_aload_n C dX0_count_33 rfl ?_
      refine tt_get_rl C dX0_count_34 ?_
      refine tw_iload_n C dX0_count_37 rfl ?_
      refine tw_bipush C (nI 17) dX0_count_38 (by decide) ?_
      refine tn_imul C dX0_count_40 ?_
      refine tw_iload C dX0_count_41 rfl ?_
      refine tn_iadd C dX0_count_43 ?_
      refine tt_ld_rl C (lvs u r i) dX0_count_44 (by omega) rfl ?_
      refine tt_ld_ls C _ dX0_count_45 (by omega) rfl ?_
      refine tn_iadd C dX0_count_46 ?_
      refine tw_istore_n C dX0_count_47 (by decide) rfl ?_
      refine tn_inc C dX0_count_48 rfl (by decide) rfl ?_
      refine tw_goto C 17 dX0_count_51 (by decide) ?_
      have q := ih (i + 1) (by omega) (by omega)
      rw [FLn_len] at q
      exact q
theorem t_keyAt (x : St) (n i : Int32) (hB : Bd x) : TMi l yX0_keyAt cX0_keyAt 7 (some .int) 2 D (tyT dB dI) [.ref (ad 0), .int n, .int i] (wT ad dB dI x) (wT ad dB dI) (fun a u => a = kaV x n i ∧ u = x) := by
  refine TMi.of (by decide) (Nat.le_of_ble_eq_true rfl) (fun p e s m below meth c A C => ?_)
  have hB0 := hB
  obtain ⟨blu, bls, blk, bru, brs, brl, bvr, bwk⟩ := hB
  refine tw_aload_n C dX0_keyAt_0 rfl ?_
  refine tw_iload_n C dX0_keyAt_1 rfl ?_
  refine tt_calli1 C (t_rootOf x n hB0) rfl q148 q150 qs14 q151 (by decide +kernel) (by decide) (by decide) (Nat.le_of_ble_eq_true rfl) dX0_keyAt_2  (fun a u hu => ?_)
  obtain ⟨hu, rfl⟩ := hu
  obtain rfl := rt_of hu
  cases ho : rtO u n with
  | none =>
    refine tw_istore_n C dX0_keyAt_5 (by decide) rfl ?_
    refine tw_iload_n C dX0_keyAt_6 rfl ?_
    refine tw_if_lt C 14 dX0_keyAt_7 (by decide)  (fun h => ?_) (fun h => ?_)
    · refine tw_iconst C (-1) dX0_keyAt_14 (by decide) ?_
      exact tw_iret C u dX0_keyAt_15 rfl rfl ⟨by unfold kaV; rw [ho]; rfl, rfl⟩
    · exact absurd (by decide) h
  | some r =>
    have hr := rtO_lt hB0 ho
    have b1 := brs r
    refine tw_istore_n C dX0_keyAt_5 (by decide) rfl ?_
    refine tw_iload_n C dX0_keyAt_6 rfl ?_
    refine tn_if_lt C 14 dX0_keyAt_7 (by decide) (by omega) ?_
    refine tw_iload_n C dX0_keyAt_10 rfl ?_
    by_cases hi0 : i < 0
    · refine tw_if_ge C 16 dX0_keyAt_11 (by decide)  (fun h => ?_) (fun h => ?_)
      · exact absurd hi0 (Int32.not_lt.mpr h)
      · refine tw_iconst C (-1) dX0_keyAt_14 (by decide) ?_
        exact tw_iret C u dX0_keyAt_15 rfl rfl ⟨by unfold kaV; rw [ho]; show _ = if i < 0 then (-1 : Int32) else _; rw [if_pos hi0], rfl⟩
    · obtain ⟨N, hN, rfl⟩ := nI_of hi0
      have eV : kaV u n (nI N) = ((FL u r)[N]?).elim (-1) (fun e => nI e.1) := by
        unfold kaV
        rw [ho]
        show (if nI N < 0 then (-1 : Int32) else ((FL u r)[(nI N).toNatClampNeg]?).elim (-1) (fun e => nI e.1)) = _
        rw [if_neg hi0, nI_clamp hN]
      refine tn_if_ge C 16 dX0_keyAt_11 (by decide) (by omega) ?_
      refine tw_iload_n C dX0_keyAt_16 rfl ?_
      refine tw_istore C dX0_keyAt_17 (by decide) rfl ?_
      refine tw_iconst C (nI 0) dX0_keyAt_19 (by decide) ?_
      refine tw_istore C dX0_keyAt_20 (by decide) rfl ?_
      refine tw_loop (fun _ => wT ad dB dI u) (fun q => [(0, .ref (ad 0)), (1, .int n), (2, .int (nI N)), (3, .int (nI r)), (4, .int (nI (N - (FLn u r q).length))), (5, .int (nI q))]) (fun q => q ≤ xrs u r ∧ (FLn u r q).length ≤ N) (fun q => xrs u r - q) ?_ 0 ⟨Nat.zero_le _, Nat.zero_le _⟩
      intro q hq ih
      obtain ⟨hq, hq2⟩ := hq
      refine tw_iload C dX0_keyAt_22 rfl ?_
      refine tw_aload_n C dX0_keyAt_24 rfl ?_
      refine tt_get_rs C dX0_keyAt_25 ?_
      refine tw_iload_n C dX0_keyAt_28 rfl ?_
      refine tt_ld_rs C _ dX0_keyAt_29 (by omega) rfl ?_
      refine tn_icmp_ge C 90 dX0_keyAt_30 (by decide) (by omega) (by omega)  (fun h => ?_) (fun h => ?_)
      · refine tw_iconst C (-1) dX0_keyAt_90 (by decide) ?_
        have he : q = xrs u r := by omega
        subst he
        exact tw_iret C u dX0_keyAt_91 rfl rfl ⟨by rw [eV, List.getElem?_eq_none (show (FL u r).length ≤ N from hq2)]; rfl, rfl⟩
      · have b3 : lvs u r q < 96 := brl _
        have b4 := bls (lvs u r q)
        refine tw_aload_n C dX0_keyAt_33 rfl ?_
        refine tt_get_rl C dX0_keyAt_34 ?_
        refine tw_iload_n C dX0_keyAt_37 rfl ?_
        refine tw_bipush C (nI 17) dX0_keyAt_38 (by decide) ?_
        refine tn_imul C dX0_keyAt_40 ?_
        refine tw_iload C dX0_keyAt_41 rfl ?_
        refine tn_iadd C dX0_keyAt_43 ?_
        refine tt_ld_rl C (lvs u r q) dX0_keyAt_44 (by omega) rfl ?_
        refine tw_istore C dX0_keyAt_45 (by decide) rfl ?_
        refine tw_iload C dX0_keyAt_47 rfl ?_
        refine tw_aload_n C dX0_keyAt_49 rfl ?_
        refine tt_get_ls C dX0_keyAt_50 ?_
        refine tw_iload C dX0_keyAt_53 rfl ?_
        refine tt_ld_ls C _ dX0_keyAt_55 (by omega) rfl ?_
        refine tn_icmp_ge C 72 dX0_keyAt_56 (by decide) (by omega) (by omega)  (fun h2 => ?_) (fun h2 => ?_)
        · refine tw_iload C dX0_keyAt_72 rfl ?_
          refine tw_aload_n C dX0_keyAt_74 rfl ?_
          refine tt_get_ls C dX0_keyAt_75 ?_
          refine tw_iload C dX0_keyAt_78 rfl ?_
          refine tt_ld_ls C _ dX0_keyAt_80 (by omega) rfl ?_
          refine tn_isub C dX0_keyAt_81 (by omega) ?_
          refine tw_istore C dX0_keyAt_82 (by decide) rfl ?_
          refine tn_inc C dX0_keyAt_84 rfl (by decide) rfl ?_
          refine tw_goto C 22 dX0_keyAt_87 (by decide) ?_
          refine tw_pick [0, 1, 2, 3, 4, 5] rfl ?_
          have e1 : N - (FLn u r (q + 1)).length = N - (FLn u r q).length - xls u (lvs u r q) := by rw [FLn_len]; omega
          have z := ih (q + 1) ⟨by omega, by rw [FLn_len]; omega⟩ (by omega)
          rw [e1] at z
          exact z
        · refine tw_aload_n C dX0_keyAt_59 rfl ?_
          refine tt_get_lk C dX0_keyAt_60 ?_
          refine tw_iload C dX0_keyAt_63 rfl ?_
          refine tw_iconst C (nI 5) dX0_keyAt_65 (by decide) ?_
          refine tn_imul C dX0_keyAt_66 ?_
          refine tw_iload C dX0_keyAt_67 rfl ?_
          refine tn_iadd C dX0_keyAt_69 ?_
          refine tt_ld_lk C _ dX0_keyAt_70 (by omega) rfl ?_
          exact tw_iret C u dX0_keyAt_71 rfl rfl ⟨by rw [eV, FL_get u r h hq2 h2]; rfl, rfl⟩
theorem t_rank (x : St) (n k : Int32) (hB : Bd x) : TMi l yX0_rank cX0_rank 7 (some .int) 2 D (tyT dB dI) [.ref (ad 0), .int n, .int k] (wT ad dB dI x) (wT ad dB dI) (fun a u => a = rkV x n k ∧ u = x) := by
  refine TMi.of (by decide) (Nat.le_of_ble_eq_true rfl) (fun p e s m below meth c A C => ?_)
  have hB0 := hB
  obtain ⟨blu, bls, blk, bru, brs, brl, bvr, bwk⟩ := hB
  refine tw_aload_n C dX0_rank_0 rfl ?_
  refine tw_iload_n C dX0_rank_1 rfl ?_
  refine tt_calli1 C (t_rootOf x n hB0) rfl q148 q150 qs14 q151 (by decide +kernel) (by decide) (by decide) (Nat.le_of_ble_eq_true rfl) dX0_rank_2  (fun a u hu => ?_)
  obtain ⟨hu, rfl⟩ := hu
  obtain rfl := rt_of hu
  cases ho : rtO u n with
  | none =>
    refine tw_istore_n C dX0_rank_5 (by decide) rfl ?_
    refine tw_iload_n C dX0_rank_6 rfl ?_
    refine tw_if_ge C 12 dX0_rank_7 (by decide)  (fun h => ?_) (fun h => ?_)
    · exact absurd h (by decide)
    · refine tw_iconst C (-1) dX0_rank_10 (by decide) ?_
      exact tw_iret C u dX0_rank_11 rfl rfl ⟨by unfold rkV; rw [ho]; rfl, rfl⟩
  | some r =>
    have hr := rtO_lt hB0 ho
    have b1 := brs r
    have eV : rkV u n k = nI (rkN u r k) := by unfold rkV; rw [ho]; rfl
    refine tw_istore_n C dX0_rank_5 (by decide) rfl ?_
    refine tw_iload_n C dX0_rank_6 rfl ?_
    refine tn_if_ge C 12 dX0_rank_7 (by decide) (by omega) ?_
    refine tw_iconst C (nI 0) dX0_rank_12 (by decide) ?_
    refine tw_istore C dX0_rank_13 (by decide) rfl ?_
    refine tw_aload_n C dX0_rank_15 rfl ?_
    refine tw_iload_n C dX0_rank_16 rfl ?_
    refine tw_iload_n C dX0_rank_17 rfl ?_
    refine tt_calli2 C (t_placeOf u r k hB0 hr) rfl q84 q86 qs3 q87 (by decide +kernel) (by decide) (by decide) (Nat.le_of_ble_eq_true rfl) dX0_rank_18  (fun a v hv => ?_)
    obtain ⟨rfl, rfl⟩ := hv
    by_cases h0 : xrs v r = 0
    · rw [show plI v r k = -1 by unfold plI; rw [if_pos h0]]
      refine tw_istore C dX0_rank_21 (by decide) rfl ?_
      refine tw_iconst C (nI 0) dX0_rank_23 (by decide) ?_
      refine tw_istore C dX0_rank_24 (by decide) rfl ?_
      refine tw_iload C dX0_rank_26 rfl ?_
      refine tw_iload C dX0_rank_28 rfl ?_
      refine tw_icmp_ge C 61 dX0_rank_30 (by decide)  (fun h => ?_) (fun h => ?_)
      · refine tw_iload C dX0_rank_61 rfl ?_
        refine tw_if_ge C 68 dX0_rank_63 (by decide)  (fun h => ?_) (fun h => ?_)
        · exact absurd h (by decide)
        · refine tw_iconst C (nI 0) dX0_rank_66 (by decide) ?_
          exact tw_iret C v dX0_rank_67 rfl rfl ⟨by rw [eV]; unfold rkN; rw [if_pos h0], rfl⟩
      · exact absurd (by decide) h
    · have e1 : plI v r k = nI (plc v r k (xrs v r - 1)) := by unfold plI; rw [if_neg h0]
      have e2 : rkN v r k = (FLn v r (plc v r k (xrs v r - 1))).length + bel v (lvs v r (plc v r k (xrs v r - 1))) k := by unfold rkN; rw [if_neg h0]
      rw [e1]
      have b2 := plc_le v r k (xrs v r - 1)
      generalize plc v r k (xrs v r - 1) = q at e2 b2 ⊢
      refine tw_istore C dX0_rank_21 (by decide) rfl ?_
      refine tw_iconst C (nI 0) dX0_rank_23 (by decide) ?_
      refine tw_istore C dX0_rank_24 (by decide) rfl ?_
      refine tw_loop (fun _ => wT ad dB dI v) (fun i => [(0, .ref (ad 0)), (1, .int n), (2, .int k), (3, .int (nI r)), (4, .int (nI (FLn v r i).length)), (5, .int (nI q)), (6, .int (nI i))]) (fun i => i ≤ q) (fun i => q - i) ?_ 0 (Nat.zero_le _)
      intro i hi ih
      refine tw_iload C dX0_rank_26 rfl ?_
      refine tw_iload C dX0_rank_28 rfl ?_
      refine tn_icmp_ge C 61 dX0_rank_30 (by decide) (by omega) (by omega)  (fun h => ?_) (fun h => ?_)
      · have he : i = q := by omega
        subst he
        have b3 : lvs v r i < 96 := brl _
        refine tw_iload C dX0_rank_61 rfl ?_
        refine tn_if_ge C 68 dX0_rank_63 (by decide) (by omega) ?_
        refine tw_aload_n C dX0_rank_68 rfl ?_
        refine tt_get_rl C dX0_rank_69 ?_
        refine tw_iload_n C dX0_rank_72 rfl ?_
        refine tw_bipush C (nI 17) dX0_rank_73 (by decide) ?_
        refine tn_imul C dX0_rank_75 ?_
        refine tw_iload C dX0_rank_76 rfl ?_
        refine tn_iadd C dX0_rank_78 ?_
        refine tt_ld_rl C (lvs v r i) dX0_rank_79 (by omega) rfl ?_
        refine tw_istore C dX0_rank_80 (by decide) rfl ?_
        refine tw_iload C dX0_rank_82 rfl ?_
        refine tw_aload_n C dX0_rank_84 rfl ?_
        refine tw_iload C dX0_rank_85 rfl ?_
        refine tw_iload_n C dX0_rank_87 rfl ?_
        refine tt_calli2 C (t_below v (lvs v r i) k hB0 b3) rfl q104 q106 qs8 q107 (by decide +kernel) (by decide) (by decide) (Nat.le_of_ble_eq_true rfl) dX0_rank_88  (fun a w hw => ?_)
        obtain ⟨rfl, rfl⟩ := hw
        refine tn_iadd C dX0_rank_91 ?_
        exact tw_iret C w dX0_rank_92 rfl rfl ⟨by rw [eV, e2], rfl⟩
      · have b3 : lvs v r i < 96 := brl _
        refine tw_iload C dX0_rank_33 rfl ?_
        refine tw_aload_n C dX0_rank_35 rfl ?_
        refine tt_get_ls C dX0_rank_36 ?_
        refine tw_aload_n C dX0_rank_39 rfl ?_
        refine tt_get_rl C dX0_rank_40 ?_
        refine tw_iload_n C dX0_rank_43 rfl ?_
        refine tw_bipush C (nI 17) dX0_rank_44 (by decide) ?_
        refine tn_imul C dX0_rank_46 ?_
        refine tw_iload C dX0_rank_47 rfl ?_
        refine tn_iadd C dX0_rank_49 ?_
        refine tt_ld_rl C (lvs v r i) dX0_rank_50 (by omega) rfl ?_
        refine tt_ld_ls C _ dX0_rank_51 (by omega) rfl ?_
        refine tn_iadd C dX0_rank_52 ?_
        refine tw_istore C dX0_rank_53 (by decide) rfl ?_
        refine tn_inc C dX0_rank_55 rfl (by decide) rfl ?_
        refine tw_goto C 26 dX0_rank_58 (by decide) ?_
        have z := ih (i + 1) (by omega) (by omega)
        rw [FLn_len] at z
        exact z
theorem t_from (x : St) (n k : Int32) (hB : Bd x) : TMi l yX0_from cX0_from 4 (some .int) 3 D (tyT dB dI) [.ref (ad 0), .int n, .int k] (wT ad dB dI x) (wT ad dB dI) (fun a u => a = frV x n k ∧ u = x) := by
  refine TMi.of (by decide) (Nat.le_of_ble_eq_true rfl) (fun p e s m below meth c A C => ?_)
  refine tw_aload_n C dX0_from_0 rfl ?_
  refine tw_iload_n C dX0_from_1 rfl ?_
  refine tw_iload_n C dX0_from_2 rfl ?_
  refine tt_calli2 C (t_rank x n k hB) rfl q164 q165 q166 q167 (by decide +kernel) (by decide) (by decide) (Nat.le_of_ble_eq_true rfl) dX0_from_3  (fun a u hu => ?_)
  obtain ⟨rfl, rfl⟩ := hu
  refine tw_istore_n C dX0_from_6 (by decide) rfl ?_
  refine tw_iload_n C dX0_from_7 rfl ?_
  refine tw_if_ge C 15 dX0_from_8 (by decide)  (fun h => ?_) (fun h => ?_)
  · refine tw_aload_n C dX0_from_15 rfl ?_
    refine tw_iload_n C dX0_from_16 rfl ?_
    refine tw_iload_n C dX0_from_17 rfl ?_
    refine tt_calli2 C (t_keyAt u n (rkV u n k) hB) rfl q168 q169 q170 q171 (by decide +kernel) (by decide) (by decide) (Nat.le_of_ble_eq_true rfl) dX0_from_18  (fun a v hv => ?_)
    obtain ⟨rfl, rfl⟩ := hv
    exact tw_iret C v dX0_from_21 rfl rfl ⟨by unfold frV; rw [if_neg (Int32.not_lt.mpr h)], rfl⟩
  · refine tw_iconst C (-1) dX0_from_11 (by decide) ?_
    refine tw_goto C 21 dX0_from_12 (by decide) ?_
    exact tw_iret C u dX0_from_21 rfl rfl ⟨by unfold frV; rw [if_pos (Int32.not_le.mp h)], rfl⟩
theorem t_upTo (x : St) (n k : Int32) (hB : Bd x) : TMi l yX0_upTo cX0_upTo 5 (some .int) 3 D (tyT dB dI) [.ref (ad 0), .int n, .int k] (wT ad dB dI x) (wT ad dB dI) (fun a u => a = utV x n k ∧ u = x) := by
  refine TMi.of (by decide) (Nat.le_of_ble_eq_true rfl) (fun p e s m below meth c A C => ?_)
  refine tw_aload_n C dX0_upTo_0 rfl ?_
  refine tw_iload_n C dX0_upTo_1 rfl ?_
  refine tt_calli1 C (t_rootOf x n hB) rfl q148 q150 qs14 q151 (by decide +kernel) (by decide) (by decide) (Nat.le_of_ble_eq_true rfl) dX0_upTo_2  (fun a u hu => ?_)
  obtain ⟨hu, rfl⟩ := hu
  obtain rfl := rt_of hu
  cases ho : rtO u n with
  | none =>
    refine tw_istore_n C dX0_upTo_5 (by decide) rfl ?_
    refine tw_iload_n C dX0_upTo_6 rfl ?_
    refine tw_if_ge C 12 dX0_upTo_7 (by decide)  (fun h => ?_) (fun h => ?_)
    · exact absurd h (by decide)
    · refine tw_iconst C (-1) dX0_upTo_10 (by decide) ?_
      exact tw_iret C u dX0_upTo_11 rfl rfl ⟨by unfold utV; rw [ho]; rfl, rfl⟩
  | some r =>
    have hr := rtO_lt hB ho
    refine tw_istore_n C dX0_upTo_5 (by decide) rfl ?_
    refine tw_iload_n C dX0_upTo_6 rfl ?_
    refine tn_if_ge C 12 dX0_upTo_7 (by decide) (by omega) ?_
    refine tw_aload_n C dX0_upTo_12 rfl ?_
    refine tw_iload_n C dX0_upTo_13 rfl ?_
    refine tw_iload_n C dX0_upTo_14 rfl ?_
    refine tt_calli2 C (t_rank u n k hB) rfl q164 q165 q166 q167 (by decide +kernel) (by decide) (by decide) (Nat.le_of_ble_eq_true rfl) dX0_upTo_15  (fun a v hv => ?_)
    obtain ⟨rfl, rfl⟩ := hv
    refine tw_istore C dX0_upTo_18 (by decide) rfl ?_
    refine tw_aload_n C dX0_upTo_20 rfl ?_
    refine tw_iload_n C dX0_upTo_21 rfl ?_
    refine tw_iload_n C dX0_upTo_22 rfl ?_
    refine tt_calli2 C (t_cellOf v r k hB hr) rfl q116 q118 qs10 q119 (by decide +kernel) (by decide) (by decide) (Nat.le_of_ble_eq_true rfl) dX0_upTo_23  (fun a w hw => ?_)
    obtain ⟨rfl, rfl⟩ := hw
    rw [celI_O]
    cases hc : celO w r k with
    | none =>
      refine tw_if_lt C 33 dX0_upTo_26 (by decide)  (fun h => ?_) (fun h => ?_)
      · refine tw_aload_n C dX0_upTo_33 rfl ?_
        refine tw_iload_n C dX0_upTo_34 rfl ?_
        refine tw_iload C dX0_upTo_35 rfl ?_
        refine tw_iconst C (nI 1) dX0_upTo_37 (by decide) ?_
        refine tw_isub C dX0_upTo_38 ?_
        refine tt_calli2 C (t_keyAt w n (rkV w n k - nI 1) hB) rfl q168 q169 q170 q171 (by decide +kernel) (by decide) (by decide) (Nat.le_of_ble_eq_true rfl) dX0_upTo_39  (fun a z hz => ?_)
        obtain ⟨rfl, rfl⟩ := hz
        exact tw_iret C z dX0_upTo_42 rfl rfl ⟨by unfold utV; rw [ho]; show _ = (celO z r k).elim _ _; rw [hc]; rfl, rfl⟩
      · exact absurd (by decide) h
    | some q =>
      have hq := celO_lt hB hc
      refine tn_if_lt C 33 dX0_upTo_26 (by decide) (by omega) ?_
      refine tw_iload_n C dX0_upTo_29 rfl ?_
      refine tw_goto C 42 dX0_upTo_30 (by decide) ?_
      exact tw_iret C w dX0_upTo_42 rfl rfl ⟨by unfold utV; rw [ho]; show _ = (celO w r k).elim _ _; rw [hc]; rfl, rfl⟩
end WALK4
end
section
set_option maxRecDepth 100000
section WALK5
variable {l : Launch} {D : va_G} {ad : Nat → Nat} {dB dI : ClassId}
theorem t_sum (x : St) (n a b : Int32) (hB : Bd x) : TMi l yX0_sum cX0_sum 10 (some .int) 2 D (tyT dB dI) [.ref (ad 0), .int n, .int a, .int b] (wT ad dB dI x) (wT ad dB dI) (fun v u => v = smV x n a b ∧ u = x) := by
  refine TMi.of (by decide) (Nat.le_of_ble_eq_true rfl) (fun p e s m below meth c A C => ?_)
  have hB0 := hB
  obtain ⟨blu, bls, blk, bru, brs, brl, bvr, bwk⟩ := hB
  refine tw_aload_n C dX0_sum_0 rfl ?_
  refine tw_iload_n C dX0_sum_1 rfl ?_
  refine tt_calli1 C (t_rootOf x n hB0) rfl q148 q150 qs14 q151 (by decide +kernel) (by decide) (by decide) (Nat.le_of_ble_eq_true rfl) dX0_sum_2  (fun v u hu => ?_)
  obtain ⟨hu, rfl⟩ := hu
  obtain rfl := rt_of hu
  cases ho : rtO u n with
  | none =>
    refine tw_istore C dX0_sum_5 (by decide) rfl ?_
    refine tw_iconst C (nI 0) dX0_sum_7 (by decide) ?_
    refine tw_istore C dX0_sum_8 (by decide) rfl ?_
    refine tw_iconst C (nI 0) dX0_sum_10 (by decide) ?_
    refine tw_istore C dX0_sum_11 (by decide) rfl ?_
    refine tw_iload C dX0_sum_13 rfl ?_
    refine tw_if_lt C 130 dX0_sum_15 (by decide)  (fun h => ?_) (fun h => ?_)
    · refine tw_iload C dX0_sum_130 rfl ?_
      exact tw_iret C u dX0_sum_132 rfl rfl ⟨by unfold smV; rw [ho]; rfl, rfl⟩
    · exact absurd (by decide) h
  | some r =>
    have hr := rtO_lt hB0 ho
    have b1 := brs r
    refine tw_istore C dX0_sum_5 (by decide) rfl ?_
    refine tw_iconst C (nI 0) dX0_sum_7 (by decide) ?_
    refine tw_istore C dX0_sum_8 (by decide) rfl ?_
    refine tw_iconst C (nI 0) dX0_sum_10 (by decide) ?_
    refine tw_istore C dX0_sum_11 (by decide) rfl ?_
    refine tw_loop (fun _ => wT ad dB dI u) (fun q => [(0, .ref (ad 0)), (1, .int n), (2, .int a), (3, .int b), (4, .int (nI r)), (5, .int (sumF a b (FLn u r q) 0)), (6, .int (nI q))]) (fun q => q ≤ xrs u r) (fun q => xrs u r - q) ?_ 0 (Nat.zero_le _)
    intro q hq ih
    refine tw_iload C dX0_sum_13 rfl ?_
    refine tn_if_lt C 130 dX0_sum_15 (by decide) (by omega) ?_
    refine tw_iload C dX0_sum_18 rfl ?_
    refine tw_aload_n C dX0_sum_20 rfl ?_
    refine tt_get_rs C dX0_sum_21 ?_
    refine tw_iload C dX0_sum_24 rfl ?_
    refine tt_ld_rs C _ dX0_sum_26 (by omega) rfl ?_
    refine tn_icmp_ge C 130 dX0_sum_27 (by decide) (by omega) (by omega)  (fun h => ?_) (fun h => ?_)
    · refine tw_iload C dX0_sum_130 rfl ?_
      have he : q = xrs u r := by omega
      subst he
      exact tw_iret C u dX0_sum_132 rfl rfl ⟨by unfold smV; rw [ho]; rfl, rfl⟩
    · have b3 : lvs u r q < 96 := brl _
      refine tw_aload_n C dX0_sum_30 rfl ?_
      refine tt_get_rl C dX0_sum_31 ?_
      refine tw_iload C dX0_sum_34 rfl ?_
      refine tw_bipush C (nI 17) dX0_sum_36 (by decide) ?_
      refine tn_imul C dX0_sum_38 ?_
      refine tw_iload C dX0_sum_39 rfl ?_
      refine tn_iadd C dX0_sum_41 ?_
      refine tt_ld_rl C (lvs u r q) dX0_sum_42 (by omega) rfl ?_
      refine tw_istore C dX0_sum_43 (by decide) rfl ?_
      refine tw_iload C dX0_sum_45 rfl ?_
      refine tw_iconst C (nI 5) dX0_sum_47 (by decide) ?_
      refine tn_imul C dX0_sum_48 ?_
      refine tw_istore C dX0_sum_49 (by decide) rfl ?_
      have ih2 := ih (q + 1) (by omega) (by omega)
      rw [FLn_succ, sumF_app] at ih2
      unfold EL at ih2
      generalize lvs u r q = lf at b3 ih2 ⊢
      have b4 := bls lf
      generalize sumF a b (FLn u r q) 0 = s0 at ih2 ⊢
      refine tw_loop (fun _ => wT ad dB dI u) (fun j => [(0, .ref (ad 0)), (1, .int n), (2, .int a), (3, .int b), (4, .int (nI r)), (5, .int (sumF a b (mapR j (ent u lf)) s0)), (6, .int (nI q)), (7, .int (nI lf)), (8, .int (nI (lf * 5 + j)))]) (fun j => j ≤ xls u lf) (fun j => xls u lf - j) ?_ 0 (Nat.zero_le _)
      intro j hj ihj
      refine tw_iload C dX0_sum_51 rfl ?_
      refine tw_iload C dX0_sum_53 rfl ?_
      refine tw_iconst C (nI 5) dX0_sum_55 (by decide) ?_
      refine tn_imul C dX0_sum_56 ?_
      refine tw_aload_n C dX0_sum_57 rfl ?_
      refine tt_get_ls C dX0_sum_58 ?_
      refine tw_iload C dX0_sum_61 rfl ?_
      refine tt_ld_ls C _ dX0_sum_63 (by omega) rfl ?_
      refine tn_iadd C dX0_sum_64 ?_
      refine tn_icmp_ge C 124 dX0_sum_65 (by decide) (by omega) (by omega)  (fun h2 => ?_) (fun h2 => ?_)
      · have he : j = xls u lf := by omega
        subst he
        refine tn_inc C dX0_sum_124 rfl (by decide) rfl ?_
        refine tw_goto C 13 dX0_sum_127 (by decide) ?_
        exact tw_pick [0, 1, 2, 3, 4, 5, 6] rfl ih2
      · have ih3 := ihj (j + 1) (by omega) (by omega)
        rw [mapR_succ, sumF_app] at ih3
        refine tw_aload_n C dX0_sum_68 rfl ?_
        refine tt_get_lk C dX0_sum_69 ?_
        refine tw_iload C dX0_sum_72 rfl ?_
        refine tt_ld_lk C _ dX0_sum_74 (by omega) rfl ?_
        refine tw_iload_n C dX0_sum_75 rfl ?_
        refine tw_icmp_lt C 94 dX0_sum_76 (by decide)  (fun h3 => ?_) (fun h3 => ?_)
        · refine tw_iconst C (nI 0) dX0_sum_94 (by decide) ?_
          refine tw_istore C dX0_sum_95 (by decide) rfl ?_
          refine tw_iload C dX0_sum_97 rfl ?_
          refine tw_iload C dX0_sum_99 rfl ?_
          refine tn_if_eq C 114 dX0_sum_101 (by decide) (by omega)  (fun h4 => ?_) (fun h4 => ?_)
          · refine tw_iconst C (nI 0) dX0_sum_114 (by decide) ?_
            refine tw_iadd C dX0_sum_115 ?_
            refine tw_istore C dX0_sum_116 (by decide) rfl ?_
            refine tn_inc C dX0_sum_118 rfl (by decide) rfl ?_
            refine tw_goto C 51 dX0_sum_121 (by decide) ?_
            refine tw_pick [0, 1, 2, 3, 4, 5, 6, 7, 8] rfl ?_
            have e1 : ∀ s0 : Int32, sumF a b [ent u lf j] s0 = s0 + nI 0 := fun s0 => by
              show s0 + (if ¬ nI (ent u lf j).1 < a ∧ ¬ b < nI (ent u lf j).1 then (ent u lf j).2 else 0) = s0 + nI 0
              rw [if_neg (fun q => q.1 h3)]
              rfl
            rw [e1] at ih3
            exact ih3
          · exact absurd rfl h4
        · refine tw_aload_n C dX0_sum_79 rfl ?_
          refine tt_get_lk C dX0_sum_80 ?_
          refine tw_iload C dX0_sum_83 rfl ?_
          refine tt_ld_lk C _ dX0_sum_85 (by omega) rfl ?_
          refine tw_iload_n C dX0_sum_86 rfl ?_
          refine tw_icmp_gt C 94 dX0_sum_87 (by decide)  (fun h4 => ?_) (fun h4 => ?_)
          · refine tw_iconst C (nI 0) dX0_sum_94 (by decide) ?_
            refine tw_istore C dX0_sum_95 (by decide) rfl ?_
            refine tw_iload C dX0_sum_97 rfl ?_
            refine tw_iload C dX0_sum_99 rfl ?_
            refine tn_if_eq C 114 dX0_sum_101 (by decide) (by omega)  (fun h5 => ?_) (fun h5 => ?_)
            · refine tw_iconst C (nI 0) dX0_sum_114 (by decide) ?_
              refine tw_iadd C dX0_sum_115 ?_
              refine tw_istore C dX0_sum_116 (by decide) rfl ?_
              refine tn_inc C dX0_sum_118 rfl (by decide) rfl ?_
              refine tw_goto C 51 dX0_sum_121 (by decide) ?_
              refine tw_pick [0, 1, 2, 3, 4, 5, 6, 7, 8] rfl ?_
              have e1 : ∀ s0 : Int32, sumF a b [ent u lf j] s0 = s0 + nI 0 := fun s0 => by
                show s0 + (if ¬ nI (ent u lf j).1 < a ∧ ¬ b < nI (ent u lf j).1 then (ent u lf j).2 else 0) = s0 + nI 0
                rw [if_neg (fun q => q.2 h4)]
                rfl
              rw [e1] at ih3
              exact ih3
            · exact absurd rfl h5
          · refine tw_iconst C (nI 1) dX0_sum_90 (by decide) ?_
            refine tw_goto C 95 dX0_sum_91 (by decide) ?_
            refine tw_istore C dX0_sum_95 (by decide) rfl ?_
            refine tw_iload C dX0_sum_97 rfl ?_
            refine tw_iload C dX0_sum_99 rfl ?_
            refine tn_if_eq C 114 dX0_sum_101 (by decide) (by omega)  (fun h5 => ?_) (fun h5 => ?_)
            · exact absurd h5 (by decide)
            · refine tw_aload_n C dX0_sum_104 rfl ?_
              refine tt_get_lv C dX0_sum_105 ?_
              refine tw_iload C dX0_sum_108 rfl ?_
              refine tt_ld_lv C _ dX0_sum_110 (by omega) rfl ?_
              refine tw_goto C 115 dX0_sum_111 (by decide) ?_
              refine tw_iadd C dX0_sum_115 ?_
              refine tw_istore C dX0_sum_116 (by decide) rfl ?_
              refine tn_inc C dX0_sum_118 rfl (by decide) rfl ?_
              refine tw_goto C 51 dX0_sum_121 (by decide) ?_
              refine tw_pick [0, 1, 2, 3, 4, 5, 6, 7, 8] rfl ?_
              have e1 : ∀ s0 : Int32, sumF a b [ent u lf j] s0 = s0 + xlv u (lf * 5 + j) := fun s0 => by
                show s0 + (if ¬ nI (ent u lf j).1 < a ∧ ¬ b < nI (ent u lf j).1 then (ent u lf j).2 else 0) = s0 + xlv u (lf * 5 + j)
                rw [if_pos ⟨h3, h4⟩]
                rfl
              rw [e1] at ih3
              exact ih3
theorem t_keys (x : St) (n : Int32) (hB : Bd x) : TMi l yX0_keys cX0_keys 7 (some .int) 2 D (tyT dB dI) [.ref (ad 0), .int n] (wT ad dB dI x) (wT ad dB dI) (fun v u => v = ksV x n ∧ u = x) := by
  refine TMi.of (by decide) (Nat.le_of_ble_eq_true rfl) (fun p e s m below meth c A C => ?_)
  have hB0 := hB
  obtain ⟨blu, bls, blk, bru, brs, brl, bvr, bwk⟩ := hB
  refine tw_aload_n C dX0_keys_0 rfl ?_
  refine tw_iload_n C dX0_keys_1 rfl ?_
  refine tt_calli1 C (t_rootOf x n hB0) rfl q148 q150 qs14 q151 (by decide +kernel) (by decide) (by decide) (Nat.le_of_ble_eq_true rfl) dX0_keys_2  (fun v u hu => ?_)
  obtain ⟨hu, rfl⟩ := hu
  obtain rfl := rt_of hu
  cases ho : rtO u n with
  | none =>
    refine tw_istore_n C dX0_keys_5 (by decide) rfl ?_
    refine tw_iconst C (nI 0) dX0_keys_6 (by decide) ?_
    refine tw_istore_n C dX0_keys_7 (by decide) rfl ?_
    refine tw_iconst C (nI 0) dX0_keys_8 (by decide) ?_
    refine tw_istore C dX0_keys_9 (by decide) rfl ?_
    refine tw_iload_n C dX0_keys_11 rfl ?_
    refine tw_if_lt C 87 dX0_keys_12 (by decide)  (fun h => ?_) (fun h => ?_)
    · refine tw_iload_n C dX0_keys_87 rfl ?_
      exact tw_iret C u dX0_keys_88 rfl rfl ⟨by unfold ksV; rw [ho]; rfl, rfl⟩
    · exact absurd (by decide) h
  | some r =>
    have hr := rtO_lt hB0 ho
    have b1 := brs r
    refine tw_istore_n C dX0_keys_5 (by decide) rfl ?_
    refine tw_iconst C (nI 0) dX0_keys_6 (by decide) ?_
    refine tw_istore_n C dX0_keys_7 (by decide) rfl ?_
    refine tw_iconst C (nI 0) dX0_keys_8 (by decide) ?_
    refine tw_istore C dX0_keys_9 (by decide) rfl ?_
    refine tw_loop (fun _ => wT ad dB dI u) (fun q => [(0, .ref (ad 0)), (1, .int n), (2, .int (nI r)), (3, .int (orF (FLn u r q) 0)), (4, .int (nI q))]) (fun q => q ≤ xrs u r) (fun q => xrs u r - q) ?_ 0 (Nat.zero_le _)
    intro q hq ih
    refine tw_iload_n C dX0_keys_11 rfl ?_
    refine tn_if_lt C 87 dX0_keys_12 (by decide) (by omega) ?_
    refine tw_iload C dX0_keys_15 rfl ?_
    refine tw_aload_n C dX0_keys_17 rfl ?_
    refine tt_get_rs C dX0_keys_18 ?_
    refine tw_iload_n C dX0_keys_21 rfl ?_
    refine tt_ld_rs C _ dX0_keys_22 (by omega) rfl ?_
    refine tn_icmp_ge C 87 dX0_keys_23 (by decide) (by omega) (by omega)  (fun h => ?_) (fun h => ?_)
    · refine tw_iload_n C dX0_keys_87 rfl ?_
      have he : q = xrs u r := by omega
      subst he
      exact tw_iret C u dX0_keys_88 rfl rfl ⟨by unfold ksV; rw [ho]; rfl, rfl⟩
    · have b3 : lvs u r q < 96 := brl _
      refine tw_aload_n C dX0_keys_26 rfl ?_
      refine tt_get_rl C dX0_keys_27 ?_
      refine tw_iload_n C dX0_keys_30 rfl ?_
      refine tw_bipush C (nI 17) dX0_keys_31 (by decide) ?_
      refine tn_imul C dX0_keys_33 ?_
      refine tw_iload C dX0_keys_34 rfl ?_
      refine tn_iadd C dX0_keys_36 ?_
      refine tt_ld_rl C (lvs u r q) dX0_keys_37 (by omega) rfl ?_
      refine tw_istore C dX0_keys_38 (by decide) rfl ?_
      refine tw_iload C dX0_keys_40 rfl ?_
      refine tw_iconst C (nI 5) dX0_keys_42 (by decide) ?_
      refine tn_imul C dX0_keys_43 ?_
      refine tw_istore C dX0_keys_44 (by decide) rfl ?_
      have ih2 := ih (q + 1) (by omega) (by omega)
      rw [FLn_succ, orF_app] at ih2
      unfold EL at ih2
      generalize lvs u r q = lf at b3 ih2 ⊢
      have b4 := bls lf
      generalize orF (FLn u r q) 0 = s0 at ih2 ⊢
      refine tw_loop (fun _ => wT ad dB dI u) (fun j => [(0, .ref (ad 0)), (1, .int n), (2, .int (nI r)), (3, .int (orF (mapR j (ent u lf)) s0)), (4, .int (nI q)), (5, .int (nI lf)), (6, .int (nI (lf * 5 + j)))]) (fun j => j ≤ xls u lf) (fun j => xls u lf - j) ?_ 0 (Nat.zero_le _)
      intro j hj ihj
      refine tw_iload C dX0_keys_46 rfl ?_
      refine tw_iload C dX0_keys_48 rfl ?_
      refine tw_iconst C (nI 5) dX0_keys_50 (by decide) ?_
      refine tn_imul C dX0_keys_51 ?_
      refine tw_aload_n C dX0_keys_52 rfl ?_
      refine tt_get_ls C dX0_keys_53 ?_
      refine tw_iload C dX0_keys_56 rfl ?_
      refine tt_ld_ls C _ dX0_keys_58 (by omega) rfl ?_
      refine tn_iadd C dX0_keys_59 ?_
      refine tn_icmp_ge C 81 dX0_keys_60 (by decide) (by omega) (by omega)  (fun h2 => ?_) (fun h2 => ?_)
      · have he : j = xls u lf := by omega
        subst he
        refine tn_inc C dX0_keys_81 rfl (by decide) rfl ?_
        refine tw_goto C 11 dX0_keys_84 (by decide) ?_
        exact tw_pick [0, 1, 2, 3, 4] rfl ih2
      · have ih3 := ihj (j + 1) (by omega) (by omega)
        rw [mapR_succ, orF_app] at ih3
        refine tw_iload_n C dX0_keys_63 rfl ?_
        refine tw_iconst C (nI 1) dX0_keys_64 (by decide) ?_
        refine tw_aload_n C dX0_keys_65 rfl ?_
        refine tt_get_lk C dX0_keys_66 ?_
        refine tw_iload C dX0_keys_69 rfl ?_
        refine tt_ld_lk C _ dX0_keys_71 (by omega) rfl ?_
        refine tw_ishl C dX0_keys_72 ?_
        refine tw_ior C dX0_keys_73 ?_
        refine tw_istore_n C dX0_keys_74 (by decide) rfl ?_
        refine tn_inc C dX0_keys_75 rfl (by decide) rfl ?_
        refine tw_goto C 46 dX0_keys_78 (by decide) ?_
        exact ih3
theorem t_hasLeaf (x : St) (r lf : Nat) (hB : Bd x) (hr : r < 8) (hl : lf < 96) : TMi l yX0_hasLeaf cX0_hasLeaf 4 (some .boolean) 0 D (tyT dB dI) [.ref (ad 0), .int (nI r), .int (nI lf)] (wT ad dB dI x) (wT ad dB dI) (fun a u => ((a = 1 ∧ ∃ i, i < xrs x r ∧ lvs x r i = lf) ∨ (a = 0)) ∧ u = x) := by
  refine TMi.of (by decide) (Nat.le_of_ble_eq_true rfl) (fun p e s m below meth c A C => ?_)
  obtain ⟨blu, bls, blk, bru, brs, brl, bvr, bwk⟩ := hB
  have b1 := brs r
  refine tw_iconst C (nI 0) dX0_hasLeaf_0 (by decide) ?_
  refine tw_istore_n C dX0_hasLeaf_1 (by decide) rfl ?_
  refine tw_loop (fun _ => wT ad dB dI x) (fun i => [(0, .ref (ad 0)), (1, .int (nI r)), (2, .int (nI lf)), (3, .int (nI i))]) (fun i => i ≤ xrs x r) (fun i => xrs x r - i) ?_ 0 (Nat.zero_le _)
  intro i hi ih
  refine tw_iload_n C dX0_hasLeaf_2 rfl ?_
  refine tw_aload_n C dX0_hasLeaf_3 rfl ?_
  refine tt_get_rs C dX0_hasLeaf_4 ?_
  refine tw_iload_n C dX0_hasLeaf_7 rfl ?_
  refine tt_ld_rs C _ dX0_hasLeaf_8 (by omega) rfl ?_
  refine tn_icmp_ge C 35 dX0_hasLeaf_9 (by decide) (by omega) (by omega)  (fun h => ?_) (fun h => ?_)
  · refine tw_iconst C (nI 0) dX0_hasLeaf_35 (by decide) ?_
    exact tw_iret C x dX0_hasLeaf_36 rfl rfl ⟨Or.inr rfl, rfl⟩
  · have b3 : lvs x r i < 96 := brl _
    refine tw_aload_n C dX0_hasLeaf_12 rfl ?_
    refine tt_get_rl C dX0_hasLeaf_13 ?_
    refine tw_iload_n C dX0_hasLeaf_16 rfl ?_
    refine tw_bipush C (nI 17) dX0_hasLeaf_17 (by decide) ?_
    refine tn_imul C dX0_hasLeaf_19 ?_
    refine tw_iload_n C dX0_hasLeaf_20 rfl ?_
    refine tn_iadd C dX0_hasLeaf_21 ?_
    refine tt_ld_rl C (lvs x r i) dX0_hasLeaf_22 (by omega) rfl ?_
    refine tw_iload_n C dX0_hasLeaf_23 rfl ?_
    refine tn_icmp_ne C 29 dX0_hasLeaf_24 (by decide) (by omega) (by omega)  (fun h2 => ?_) (fun h2 => ?_)
    · refine tn_inc C dX0_hasLeaf_29 rfl (by decide) rfl ?_
      refine tw_goto C 2 dX0_hasLeaf_32 (by decide) ?_
      exact ih (i + 1) (by omega) (by omega)
    · refine tw_iconst C (nI 1) dX0_hasLeaf_27 (by decide) ?_
      exact tw_iret C x dX0_hasLeaf_28 rfl rfl ⟨Or.inl ⟨rfl, i, h, h2⟩, rfl⟩
theorem t_missingOf (x : St) (lf o : Nat) (hB : Bd x) (ho : o < 8) (hl : lf < 96) : TMi l yX0_missingOf cX0_missingOf 6 (some .int) 2 D (tyT dB dI) [.ref (ad 0), .int (nI lf), .int (nI o)] (wT ad dB dI x) (wT ad dB dI) (fun a u => a = misF x o (EL x lf) 0 ∧ u = x) := by
  refine TMi.of (by decide) (Nat.le_of_ble_eq_true rfl) (fun p e s m below meth c A C => ?_)
  have hB0 := hB
  obtain ⟨blu, bls, blk, bru, brs, brl, bvr, bwk⟩ := hB
  have b1 := bls lf
  refine tw_iconst C (nI 0) dX0_missingOf_0 (by decide) ?_
  refine tw_istore_n C dX0_missingOf_1 (by decide) rfl ?_
  refine tw_iload_n C dX0_missingOf_2 rfl ?_
  refine tw_iconst C (nI 5) dX0_missingOf_3 (by decide) ?_
  refine tn_imul C dX0_missingOf_4 ?_
  refine tw_istore C dX0_missingOf_5 (by decide) rfl ?_
  refine tw_loop (fun _ => wT ad dB dI x) (fun j => [(0, .ref (ad 0)), (1, .int (nI lf)), (2, .int (nI o)), (3, .int (misF x o (mapR j (ent x lf)) 0)), (4, .int (nI (lf * 5 + j)))]) (fun j => j ≤ xls x lf) (fun j => xls x lf - j) ?_ 0 (Nat.zero_le _)
  intro j hj ih
  refine tw_iload C dX0_missingOf_7 rfl ?_
  refine tw_iload_n C dX0_missingOf_9 rfl ?_
  refine tw_iconst C (nI 5) dX0_missingOf_10 (by decide) ?_
  refine tn_imul C dX0_missingOf_11 ?_
  refine tw_aload_n C dX0_missingOf_12 rfl ?_
  refine tt_get_ls C dX0_missingOf_13 ?_
  refine tw_iload_n C dX0_missingOf_16 rfl ?_
  refine tt_ld_ls C _ dX0_missingOf_17 (by omega) rfl ?_
  refine tn_iadd C dX0_missingOf_18 ?_
  refine tn_icmp_ge C 76 dX0_missingOf_19 (by decide) (by omega) (by omega)  (fun h => ?_) (fun h => ?_)
  · have he : j = xls x lf := by omega
    subst he
    refine tw_iload_n C dX0_missingOf_76 rfl ?_
    exact tw_iret C x dX0_missingOf_77 rfl rfl ⟨rfl, rfl⟩
  · have ih3 := ih (j + 1) (by omega) (by omega)
    rw [mapR_succ, misF_app] at ih3
    refine tw_aload_n C dX0_missingOf_22 rfl ?_
    refine tw_iload_n C dX0_missingOf_23 rfl ?_
    refine tw_aload_n C dX0_missingOf_24 rfl ?_
    refine tt_get_lk C dX0_missingOf_25 ?_
    refine tw_iload C dX0_missingOf_28 rfl ?_
    refine tt_ld_lk C _ dX0_missingOf_30 (by omega) rfl ?_
    refine tt_calli2 C (t_cellOf x o (nI (xlk x (lf * 5 + j))) hB0 ho) rfl q116 q118 qs10 q119 (by decide +kernel) (by decide) (by decide) (Nat.le_of_ble_eq_true rfl) dX0_missingOf_31  (fun a u hu => ?_)
    obtain ⟨rfl, rfl⟩ := hu
    rw [celI_O]
    have e1 : ∀ s0 : Int32, misF u o [ent u lf j] s0 = if sameB u o (ent u lf j) = true then s0 else s0 ||| (nI 1 <<< (nI (xlk u (lf * 5 + j)) &&& 31)) := fun s0 => rfl
    have e2 : sameB u o (ent u lf j) = (celO u o (nI (xlk u (lf * 5 + j)))).elim false (fun c => decide (xlv u c = xlv u (lf * 5 + j))) := rfl
    cases hc : celO u o (nI (xlk u (lf * 5 + j))) with
    | none =>
      rw [hc] at e2
      rw [e1, e2] at ih3
      refine tw_istore C dX0_missingOf_34 (by decide) rfl ?_
      refine tw_iload C dX0_missingOf_36 rfl ?_
      refine tw_if_lt C 58 dX0_missingOf_38 (by decide)  (fun h2 => ?_) (fun h2 => ?_)
      · refine tw_iload_n C dX0_missingOf_58 rfl ?_
        refine tw_iconst C (nI 1) dX0_missingOf_59 (by decide) ?_
        refine tw_aload_n C dX0_missingOf_60 rfl ?_
        refine tt_get_lk C dX0_missingOf_61 ?_
        refine tw_iload C dX0_missingOf_64 rfl ?_
        refine tt_ld_lk C _ dX0_missingOf_66 (by omega) rfl ?_
        refine tw_ishl C dX0_missingOf_67 ?_
        refine tw_ior C dX0_missingOf_68 ?_
        refine tw_istore_n C dX0_missingOf_69 (by decide) rfl ?_
        refine tn_inc C dX0_missingOf_70 rfl (by decide) rfl ?_
        refine tw_goto C 7 dX0_missingOf_73 (by decide) ?_
        exact tw_pick [0, 1, 2, 3, 4] rfl ih3
      · exact absurd (by decide) h2
    | some q =>
      rw [hc] at e2
      have hq := celO_lt hB0 hc
      refine tw_istore C dX0_missingOf_34 (by decide) rfl ?_
      refine tw_iload C dX0_missingOf_36 rfl ?_
      refine tn_if_lt C 58 dX0_missingOf_38 (by decide) (by omega) ?_
      refine tw_aload_n C dX0_missingOf_41 rfl ?_
      refine tt_get_lv C dX0_missingOf_42 ?_
      refine tw_iload C dX0_missingOf_45 rfl ?_
      refine tt_ld_lv C _ dX0_missingOf_47 (by omega) rfl ?_
      refine tw_aload_n C dX0_missingOf_48 rfl ?_
      refine tt_get_lv C dX0_missingOf_49 ?_
      refine tw_iload C dX0_missingOf_52 rfl ?_
      refine tt_ld_lv C _ dX0_missingOf_54 (by omega) rfl ?_
      refine tw_icmp_eq C 70 dX0_missingOf_55 (by decide)  (fun h2 => ?_) (fun h2 => ?_)
      · have e3 : sameB u o (ent u lf j) = true := e2.trans (decide_eq_true h2)
        rw [e1, if_pos e3] at ih3
        refine tn_inc C dX0_missingOf_70 rfl (by decide) rfl ?_
        refine tw_goto C 7 dX0_missingOf_73 (by decide) ?_
        exact tw_pick [0, 1, 2, 3, 4] rfl ih3
      · have e3 : sameB u o (ent u lf j) = false := e2.trans (decide_eq_false h2)
        rw [e1, e3] at ih3
        refine tw_iload_n C dX0_missingOf_58 rfl ?_
        refine tw_iconst C (nI 1) dX0_missingOf_59 (by decide) ?_
        refine tw_aload_n C dX0_missingOf_60 rfl ?_
        refine tt_get_lk C dX0_missingOf_61 ?_
        refine tw_iload C dX0_missingOf_64 rfl ?_
        refine tt_ld_lk C _ dX0_missingOf_66 (by omega) rfl ?_
        refine tw_ishl C dX0_missingOf_67 ?_
        refine tw_ior C dX0_missingOf_68 ?_
        refine tw_istore_n C dX0_missingOf_69 (by decide) rfl ?_
        refine tn_inc C dX0_missingOf_70 rfl (by decide) rfl ?_
        refine tw_goto C 7 dX0_missingOf_73 (by decide) ?_
        exact tw_pick [0, 1, 2, 3, 4] rfl ih3
theorem t_missing (x : St) (r o : Nat) (hB : Bd x) (hr : r < 8) (ho : o < 8) (hsh : ∀ i, i < xrs x o → ∀ e ∈ EL x (lvs x o i), sameB x o e = true) : TMi l yX0_missing cX0_missing 6 (some .int) 3 D (tyT dB dI) [.ref (ad 0), .int (nI r), .int (nI o)] (wT ad dB dI x) (wT ad dB dI) (fun a u => a = misF x o (FL x r) 0 ∧ u = x) := by
  refine TMi.of (by decide) (Nat.le_of_ble_eq_true rfl) (fun p e s m below meth c A C => ?_)
  have hB0 := hB
  obtain ⟨blu, bls, blk, bru, brs, brl, bvr, bwk⟩ := hB
  have b1 := brs r
  refine tw_iconst C (nI 0) dX0_missing_0 (by decide) ?_
  refine tw_istore_n C dX0_missing_1 (by decide) rfl ?_
  refine tw_iconst C (nI 0) dX0_missing_2 (by decide) ?_
  refine tw_istore C dX0_missing_3 (by decide) rfl ?_
  refine tw_loop (fun _ => wT ad dB dI x) (fun q => [(0, .ref (ad 0)), (1, .int (nI r)), (2, .int (nI o)), (3, .int (misF x o (FLn x r q) 0)), (4, .int (nI q))]) (fun q => q ≤ xrs x r) (fun q => xrs x r - q) ?_ 0 (Nat.zero_le _)
  intro q hq ih
  refine tw_iload C dX0_missing_5 rfl ?_
  refine tw_aload_n C dX0_missing_7 rfl ?_
  refine tt_get_rs C dX0_missing_8 ?_
  refine tw_iload_n C dX0_missing_11 rfl ?_
  refine tt_ld_rs C _ dX0_missing_12 (by omega) rfl ?_
  refine tn_icmp_ge C 56 dX0_missing_13 (by decide) (by omega) (by omega)  (fun h => ?_) (fun h => ?_)
  · have he : q = xrs x r := by omega
    subst he
    refine tw_iload_n C dX0_missing_56 rfl ?_
    exact tw_iret C x dX0_missing_57 rfl rfl ⟨rfl, rfl⟩
  · have ih3 := ih (q + 1) (by omega) (by omega)
    rw [FLn_succ, misF_app] at ih3
    have b3 : lvs x r q < 96 := brl _
    refine tw_aload_n C dX0_missing_16 rfl ?_
    refine tt_get_rl C dX0_missing_17 ?_
    refine tw_iload_n C dX0_missing_20 rfl ?_
    refine tw_bipush C (nI 17) dX0_missing_21 (by decide) ?_
    refine tn_imul C dX0_missing_23 ?_
    refine tw_iload C dX0_missing_24 rfl ?_
    refine tn_iadd C dX0_missing_26 ?_
    refine tt_ld_rl C (lvs x r q) dX0_missing_27 (by omega) rfl ?_
    refine tw_istore C dX0_missing_28 (by decide) rfl ?_
    refine tw_aload_n C dX0_missing_30 rfl ?_
    refine tw_iload_n C dX0_missing_31 rfl ?_
    refine tw_iload C dX0_missing_32 rfl ?_
    refine tt_calli2 C (t_hasLeaf x o (lvs x r q) hB0 ho b3) rfl q190 q192 qs16 q193 (by decide +kernel) (by decide) (by decide) (Nat.le_of_ble_eq_true rfl) dX0_missing_34  (fun a u hu => ?_)
    obtain ⟨hu, rfl⟩ := hu
    rcases hu with ⟨rfl, i, hi, he⟩ | rfl
    · refine tw_if_ne C 50 dX0_missing_37 (by decide)  (fun h2 => ?_) (fun h2 => ?_)
      · refine tn_inc C dX0_missing_50 rfl (by decide) rfl ?_
        refine tw_goto C 5 dX0_missing_53 (by decide) ?_
        rw [misF_skip u o (EL u (lvs u r q)) (he ▸ hsh i hi)] at ih3
        exact tw_pick [0, 1, 2, 3, 4] rfl ih3
      · exact absurd h2 (by decide)
    · refine tw_if_ne C 50 dX0_missing_37 (by decide)  (fun h2 => ?_) (fun h2 => ?_)
      · exact absurd rfl h2
      · refine tw_iload_n C dX0_missing_40 rfl ?_
        refine tw_aload_n C dX0_missing_41 rfl ?_
        refine tw_iload C dX0_missing_42 rfl ?_
        refine tw_iload_n C dX0_missing_44 rfl ?_
        refine tt_calli2 C (t_missingOf u (lvs u r q) o hB0 ho b3) rfl q194 q196 qs17 q197 (by decide +kernel) (by decide) (by decide) (Nat.le_of_ble_eq_true rfl) dX0_missing_45  (fun a v hv => ?_)
        obtain ⟨rfl, rfl⟩ := hv
        refine tw_ior C dX0_missing_48 ?_
        refine tw_istore_n C dX0_missing_49 (by decide) rfl ?_
        refine tn_inc C dX0_missing_50 rfl (by decide) rfl ?_
        refine tw_goto C 5 dX0_missing_53 (by decide) ?_
        rw [← misF_or0 v o (EL v (lvs v r q))] at ih3
        exact tw_pick [0, 1, 2, 3, 4] rfl ih3
theorem t_difference (x : St) (n m : Int32) (hB : Bd x) (hsh : ∀ n r, rtO x n = some r → ∀ i, i < xrs x r → ∀ e ∈ EL x (lvs x r i), sameB x r e = true) : TMi l yX0_difference cX0_difference 5 (some .int) 4 D (tyT dB dI) [.ref (ad 0), .int n, .int m] (wT ad dB dI x) (wT ad dB dI) (fun a u => a = dfV x n m ∧ u = x) := by
  refine TMi.of (by decide) (Nat.le_of_ble_eq_true rfl) (fun p e s m0 below meth c A C => ?_)
  refine tw_aload_n C dX0_difference_0 rfl ?_
  refine tw_iload_n C dX0_difference_1 rfl ?_
  refine tt_calli1 C (t_rootOf x n hB) rfl q148 q150 qs14 q151 (by decide +kernel) (by decide) (by decide) (Nat.le_of_ble_eq_true rfl) dX0_difference_2  (fun a u hu => ?_)
  obtain ⟨hu, rfl⟩ := hu
  obtain rfl := rt_of hu
  refine tw_istore_n C dX0_difference_5 (by decide) rfl ?_
  refine tw_aload_n C dX0_difference_6 rfl ?_
  refine tw_iload_n C dX0_difference_7 rfl ?_
  refine tt_calli1 C (t_rootOf u m hB) rfl q148 q150 qs14 q151 (by decide +kernel) (by decide) (by decide) (Nat.le_of_ble_eq_true rfl) dX0_difference_8  (fun a v hv => ?_)
  obtain ⟨hv, rfl⟩ := hv
  obtain rfl := rt_of hv
  refine tw_istore C dX0_difference_11 (by decide) rfl ?_
  refine tw_iload_n C dX0_difference_13 rfl ?_
  cases h1 : rtO v n with
  | none =>
    refine tw_if_lt C 22 dX0_difference_14 (by decide)  (fun h => ?_) (fun h => ?_)
    · refine tw_iconst C (nI 0) dX0_difference_22 (by decide) ?_
      exact tw_iret C v dX0_difference_23 rfl rfl ⟨by unfold dfV; rw [h1]; rfl, rfl⟩
    · exact absurd (by decide) h
  | some r =>
    have hr := rtO_lt hB h1
    refine tn_if_lt C 22 dX0_difference_14 (by decide) (by omega) ?_
    refine tw_iload C dX0_difference_17 rfl ?_
    cases h2 : rtO v m with
    | none =>
      refine tw_if_ge C 24 dX0_difference_19 (by decide)  (fun h => ?_) (fun h => ?_)
      · exact absurd h (by decide)
      · refine tw_iconst C (nI 0) dX0_difference_22 (by decide) ?_
        exact tw_iret C v dX0_difference_23 rfl rfl ⟨by unfold dfV; rw [h1, h2]; rfl, rfl⟩
    | some q =>
      have hq := rtO_lt hB h2
      refine tn_if_ge C 24 dX0_difference_19 (by decide) (by omega) ?_
      refine tw_aload_n C dX0_difference_24 rfl ?_
      refine tw_iload_n C dX0_difference_25 rfl ?_
      refine tw_iload C dX0_difference_26 rfl ?_
      refine tt_calli2 C (t_missing v r q hB hr hq (hsh m q h2)) rfl q186 q188 qs15 q189 (by decide +kernel) (by decide) (by decide) (Nat.le_of_ble_eq_true rfl) dX0_difference_28  (fun a w hw => ?_)
      obtain ⟨rfl, rfl⟩ := hw
      refine tw_aload_n C dX0_difference_31 rfl ?_
      refine tw_iload C dX0_difference_32 rfl ?_
      refine tw_iload_n C dX0_difference_34 rfl ?_
      refine tt_calli2 C (t_missing w q r hB hq hr (hsh n r h1)) rfl q186 q188 qs15 q189 (by decide +kernel) (by decide) (by decide) (Nat.le_of_ble_eq_true rfl) dX0_difference_35  (fun a z hz => ?_)
      obtain ⟨rfl, rfl⟩ := hz
      refine tw_ior C dX0_difference_38 ?_
      exact tw_iret C z dX0_difference_39 rfl rfl ⟨by unfold dfV; rw [h1, h2]; rfl, rfl⟩
end WALK5
end
section
set_option maxRecDepth 100000
/-! THE MODEL: its state, its world, its rows -/
abbrev MSt : Type := (Nat → Int32) × (Nat → Int32) × Nat × Nat
abbrev mks (y : MSt) : Nat → Int32 := y.1
abbrev mvs (y : MSt) : Nat → Int32 := y.2.1
abbrev mlo (y : MSt) : Nat := y.2.2.1
abbrev mhi (y : MSt) : Nat := y.2.2.2
abbrev zks (y : MSt) (g : Nat → Int32) : MSt := (g, mvs y, mlo y, mhi y)
abbrev zvs (y : MSt) (g : Nat → Int32) : MSt := (mks y, g, mlo y, mhi y)
abbrev zlo (y : MSt) (g : Nat) : MSt := (mks y, mvs y, g, mhi y)
abbrev zhi (y : MSt) (g : Nat) : MSt := (mks y, mvs y, mlo y, g)
def wM (am : Nat → Nat) (dI : ClassId) (y : MSt) : va_W := [(am 0, .inr (1, [.ref (am 1), .ref (am 2), .int (nI (mlo y)), .int (nI (mhi y))])), (am 1, .inl (dI, 5, .inl (mks y))), (am 2, .inl (dI, 160, .inl (mvs y)))]
section TMR
variable {p : Program} {l : Launch} {e : Env} {R : Room} {s : State} {m : MethodId} {args : Array Value} {below : List Frame} {meth : Method} {c : Code} {cells slots : Nat} {Q : State → Prop} {D : va_G} {A : Nat → Prop} {nL : Nat} {pc : Nat} {lv : List (Nat × Value)} {st : List Value}
variable {cc : ByteArray} {ret : Option FieldType} {am : Nat → Nat} {dB dI : ClassId} {x : MSt}
theorem tm_get_ks (C : Cx p s m args meth c D A nL cc RX1 (tyT dB dI) ret) (hdg : decode cc pc = .ok (.getfield 7, 3)) (kk : TW p l e R s m args below meth c cells slots Q D A nL (wM am dI x) (pc + 3) lv (.ref (am 1) :: st)) : TW p l e R s m args below meth c cells slots Q D A nL (wM am dI x) pc lv (.ref (am 0) :: st) :=
  fun H locs ls hP hD hS hl => va_get (ci := 1) (v := .ref (am 1)) (C := RX1) (T := TX1) (N := 4) C.1 C.2.1 C.2.2.2.2.1 in_X1 C.2.2.2.1 C.2.2.2.2.2.2.1 hP 0 rfl rfl 0 (by decide) (C.2.2.2.2.1 _ q208) (fun _ h9 => h9) rfl hdg (kk H locs ls hP hD hS hl)
theorem tm_get_vs (C : Cx p s m args meth c D A nL cc RX1 (tyT dB dI) ret) (hdg : decode cc pc = .ok (.getfield 13, 3)) (kk : TW p l e R s m args below meth c cells slots Q D A nL (wM am dI x) (pc + 3) lv (.ref (am 2) :: st)) : TW p l e R s m args below meth c cells slots Q D A nL (wM am dI x) pc lv (.ref (am 0) :: st) :=
  fun H locs ls hP hD hS hl => va_get (ci := 1) (v := .ref (am 2)) (C := RX1) (T := TX1) (N := 4) C.1 C.2.1 C.2.2.2.2.1 in_X1 C.2.2.2.1 C.2.2.2.2.2.2.1 hP 0 rfl rfl 1 (by decide) (C.2.2.2.2.1 _ q209) (fun _ h9 => h9) rfl hdg (kk H locs ls hP hD hS hl)
theorem tm_get_lo (C : Cx p s m args meth c D A nL cc RX1 (tyT dB dI) ret) (v : Nat) (hdg : decode cc pc = .ok (.getfield 16, 3)) (hv : mlo x = v) (kk : TW p l e R s m args below meth c cells slots Q D A nL (wM am dI x) (pc + 3) lv (.int (nI v) :: st)) : TW p l e R s m args below meth c cells slots Q D A nL (wM am dI x) pc lv (.ref (am 0) :: st) := by
  subst hv
  exact fun H locs ls hP hD hS hl => va_get (ci := 1) (v := .int (nI (mlo x))) (C := RX1) (T := TX1) (N := 4) C.1 C.2.1 C.2.2.2.2.1 in_X1 C.2.2.2.1 C.2.2.2.2.2.2.1 hP 0 rfl rfl 2 (by decide) (C.2.2.2.2.1 _ q210) (fun _ h9 => h9) rfl hdg (kk H locs ls hP hD hS hl)
theorem tm_put_lo (C : Cx p s m args meth c D A nL cc RX1 (tyT dB dI) ret) {n : Nat} (hdg : decode cc pc = .ok (.putfield 16, 3)) (kk : TW p l e R s m args below meth c cells slots Q D A nL (wM am dI (zlo x n)) (pc + 3) lv st) : TW p l e R s m args below meth c cells slots Q D A nL (wM am dI x) pc lv (.int (nI n) :: .ref (am 0) :: st) :=
  fun H locs ls hP hD hS hl => va_put (ci := 1) (v := .int (nI n)) (ty := .int) (C := RX1) (T := TX1) (N := 4) C.1 C.2.1 C.2.2.2.2.1 in_X1 tyX1 tyX1_ok nmX1 C.2.2.2.1 C.2.2.2.2.2.2.1 hP hD hS 0 rfl rfl 2 (by decide) (C.2.2.2.2.1 _ q210) (fun _ h9 => h9) rfl (by decide +kernel) rfl rfl (Nat.le_of_ble_eq_true rfl) hdg (fun H locs hP hD hS => kk H locs ls hP hD hS hl)
theorem tm_get_hi (C : Cx p s m args meth c D A nL cc RX1 (tyT dB dI) ret) (v : Nat) (hdg : decode cc pc = .ok (.getfield 20, 3)) (hv : mhi x = v) (kk : TW p l e R s m args below meth c cells slots Q D A nL (wM am dI x) (pc + 3) lv (.int (nI v) :: st)) : TW p l e R s m args below meth c cells slots Q D A nL (wM am dI x) pc lv (.ref (am 0) :: st) := by
  subst hv
  exact fun H locs ls hP hD hS hl => va_get (ci := 1) (v := .int (nI (mhi x))) (C := RX1) (T := TX1) (N := 4) C.1 C.2.1 C.2.2.2.2.1 in_X1 C.2.2.2.1 C.2.2.2.2.2.2.1 hP 0 rfl rfl 3 (by decide) (C.2.2.2.2.1 _ q211) (fun _ h9 => h9) rfl hdg (kk H locs ls hP hD hS hl)
theorem tm_put_hi (C : Cx p s m args meth c D A nL cc RX1 (tyT dB dI) ret) {n : Nat} (hdg : decode cc pc = .ok (.putfield 20, 3)) (kk : TW p l e R s m args below meth c cells slots Q D A nL (wM am dI (zhi x n)) (pc + 3) lv st) : TW p l e R s m args below meth c cells slots Q D A nL (wM am dI x) pc lv (.int (nI n) :: .ref (am 0) :: st) :=
  fun H locs ls hP hD hS hl => va_put (ci := 1) (v := .int (nI n)) (ty := .int) (C := RX1) (T := TX1) (N := 4) C.1 C.2.1 C.2.2.2.2.1 in_X1 tyX1 tyX1_ok nmX1 C.2.2.2.1 C.2.2.2.2.2.2.1 hP hD hS 0 rfl rfl 3 (by decide) (C.2.2.2.2.1 _ q211) (fun _ h9 => h9) rfl (by decide +kernel) rfl rfl (Nat.le_of_ble_eq_true rfl) hdg (fun H locs hP hD hS => kk H locs ls hP hD hS hl)
theorem tm_ld_ks (C : Cx p s m args meth c D A nL cc RX1 (tyT dB dI) ret) {i : Nat} (v : Int32) (hdg : decode cc pc = .ok (.iaload, 1)) (hi : i < 5) (hv : mks x i = v) (kk : TW p l e R s m args below meth c cells slots Q D A nL (wM am dI x) (pc + 1) lv (.int v :: st)) : TW p l e R s m args below meth c cells slots Q D A nL (wM am dI x) pc lv (.int (nI i) :: .ref (am 1) :: st) :=
  tw_iald C 1 1 v rfl rfl (by decide) hdg hi hv kk
theorem tm_st_ks (C : Cx p s m args meth c D A nL cc RX1 (tyT dB dI) ret) {i : Nat} {v : Int32} (hdg : decode cc pc = .ok (.iastore, 1)) (hi : i < 5) (kk : TW p l e R s m args below meth c cells slots Q D A nL (wM am dI (zks x (upd (mks x) i v))) (pc + 1) lv st) : TW p l e R s m args below meth c cells slots Q D A nL (wM am dI x) pc lv (.int v :: .int (nI i) :: .ref (am 1) :: st) :=
  tw_iast C 1 1 rfl rfl (by decide) rfl hdg hi kk
theorem tm_ld_vs (C : Cx p s m args meth c D A nL cc RX1 (tyT dB dI) ret) {i : Nat} (v : Int32) (hdg : decode cc pc = .ok (.iaload, 1)) (hi : i < 160) (hv : mvs x i = v) (kk : TW p l e R s m args below meth c cells slots Q D A nL (wM am dI x) (pc + 1) lv (.int v :: st)) : TW p l e R s m args below meth c cells slots Q D A nL (wM am dI x) pc lv (.int (nI i) :: .ref (am 2) :: st) :=
  tw_iald C 2 1 v rfl rfl (by decide) hdg hi hv kk
theorem tm_st_vs (C : Cx p s m args meth c D A nL cc RX1 (tyT dB dI) ret) {i : Nat} {v : Int32} (hdg : decode cc pc = .ok (.iastore, 1)) (hi : i < 160) (kk : TW p l e R s m args below meth c cells slots Q D A nL (wM am dI (zvs x (upd (mvs x) i v))) (pc + 1) lv st) : TW p l e R s m args below meth c cells slots Q D A nL (wM am dI x) pc lv (.int v :: .int (nI i) :: .ref (am 2) :: st) :=
  tw_iast C 2 1 rfl rfl (by decide) rfl hdg hi kk
theorem tm_calli0 (C : Cx p s m args meth c D A nL cc RX1 (tyT dB dI) ret) {y : MethodName} {bytes : ByteArray} {maxL dc index : Nat} {rt : Option FieldType} {post : Int32 → MSt → Prop} (hM : TMi l y bytes maxL rt dc D (tyT dB dI) (.ref (am 0) :: []) (wM am dI x) (wM am dI) post) (hq : RX1 = y.cls) (h1 : Cond.methodLink RX1 index y ∈ lw_all) (h2 : Cond.instanceMethod y ∈ lw_all) (h3 : Cond.selects y.cls y y ∈ lw_all) (h5 : Cond.code y bytes maxL rt ∈ lw_all) (hd : y.cls = y.cls ∧ y.cls ≠ "java/lang/invoke/MethodHandle" ∧ y.cls ≠ "java/lang/invoke/VarHandle" ∧ (parseMethodDescriptor y.desc).map (fun d => d.parameters.length) = some 0) (hR : dc + 1 ≤ R.frames ∧ 8 + (maxL + 11) + 30 * dc ≤ R.locals) (hC : cells ≤ R.cells ∧ slots ≤ R.slots) (hrm : (st.map fun v => v.category).sum ≤ 8) (hdg : decode cc pc = .ok (.invokevirtual index, 3)) (kk : ∀ (r : Int32) (u : MSt), post r u → TW p l e R s m args below meth c cells slots Q D A nL (wM am dI u) (pc + 3) lv (.int r :: st)) : TW p l e R s m args below meth c cells slots Q D A nL (wM am dI x) pc lv (.ref (am 0) :: st) :=
  tw_calli C (As := []) hM rfl rfl hq h1 h2 h3 (hq ▸ q23) h5 hd hR hC rfl hrm hdg kk
theorem tm_calli1 (C : Cx p s m args meth c D A nL cc RX1 (tyT dB dI) ret) {y : MethodName} {bytes : ByteArray} {maxL dc index : Nat} {rt : Option FieldType} {a1 : Int32} {post : Int32 → MSt → Prop} (hM : TMi l y bytes maxL rt dc D (tyT dB dI) (.ref (am 0) :: [.int a1]) (wM am dI x) (wM am dI) post) (hq : RX1 = y.cls) (h1 : Cond.methodLink RX1 index y ∈ lw_all) (h2 : Cond.instanceMethod y ∈ lw_all) (h3 : Cond.selects y.cls y y ∈ lw_all) (h5 : Cond.code y bytes maxL rt ∈ lw_all) (hd : y.cls = y.cls ∧ y.cls ≠ "java/lang/invoke/MethodHandle" ∧ y.cls ≠ "java/lang/invoke/VarHandle" ∧ (parseMethodDescriptor y.desc).map (fun d => d.parameters.length) = some 1) (hR : dc + 1 ≤ R.frames ∧ 8 + (maxL + 11) + 30 * dc ≤ R.locals) (hC : cells ≤ R.cells ∧ slots ≤ R.slots) (hrm : (st.map fun v => v.category).sum ≤ 8) (hdg : decode cc pc = .ok (.invokevirtual index, 3)) (kk : ∀ (r : Int32) (u : MSt), post r u → TW p l e R s m args below meth c cells slots Q D A nL (wM am dI u) (pc + 3) lv (.int r :: st)) : TW p l e R s m args below meth c cells slots Q D A nL (wM am dI x) pc lv (.int a1 :: .ref (am 0) :: st) :=
  tw_calli C (As := [.int a1]) hM rfl rfl hq h1 h2 h3 (hq ▸ q23) h5 hd hR hC rfl hrm hdg kk
theorem tm_calli2 (C : Cx p s m args meth c D A nL cc RX1 (tyT dB dI) ret) {y : MethodName} {bytes : ByteArray} {maxL dc index : Nat} {rt : Option FieldType} {a1 a2 : Int32} {post : Int32 → MSt → Prop} (hM : TMi l y bytes maxL rt dc D (tyT dB dI) (.ref (am 0) :: [.int a1, .int a2]) (wM am dI x) (wM am dI) post) (hq : RX1 = y.cls) (h1 : Cond.methodLink RX1 index y ∈ lw_all) (h2 : Cond.instanceMethod y ∈ lw_all) (h3 : Cond.selects y.cls y y ∈ lw_all) (h5 : Cond.code y bytes maxL rt ∈ lw_all) (hd : y.cls = y.cls ∧ y.cls ≠ "java/lang/invoke/MethodHandle" ∧ y.cls ≠ "java/lang/invoke/VarHandle" ∧ (parseMethodDescriptor y.desc).map (fun d => d.parameters.length) = some 2) (hR : dc + 1 ≤ R.frames ∧ 8 + (maxL + 11) + 30 * dc ≤ R.locals) (hC : cells ≤ R.cells ∧ slots ≤ R.slots) (hrm : (st.map fun v => v.category).sum ≤ 8) (hdg : decode cc pc = .ok (.invokevirtual index, 3)) (kk : ∀ (r : Int32) (u : MSt), post r u → TW p l e R s m args below meth c cells slots Q D A nL (wM am dI u) (pc + 3) lv (.int r :: st)) : TW p l e R s m args below meth c cells slots Q D A nL (wM am dI x) pc lv (.int a2 :: .int a1 :: .ref (am 0) :: st) :=
  tw_calli C (As := [.int a1, .int a2]) hM rfl rfl hq h1 h2 h3 (hq ▸ q23) h5 hd hR hC rfl hrm hdg kk
theorem tm_calli3 (C : Cx p s m args meth c D A nL cc RX1 (tyT dB dI) ret) {y : MethodName} {bytes : ByteArray} {maxL dc index : Nat} {rt : Option FieldType} {a1 a2 a3 : Int32} {post : Int32 → MSt → Prop} (hM : TMi l y bytes maxL rt dc D (tyT dB dI) (.ref (am 0) :: [.int a1, .int a2, .int a3]) (wM am dI x) (wM am dI) post) (hq : RX1 = y.cls) (h1 : Cond.methodLink RX1 index y ∈ lw_all) (h2 : Cond.instanceMethod y ∈ lw_all) (h3 : Cond.selects y.cls y y ∈ lw_all) (h5 : Cond.code y bytes maxL rt ∈ lw_all) (hd : y.cls = y.cls ∧ y.cls ≠ "java/lang/invoke/MethodHandle" ∧ y.cls ≠ "java/lang/invoke/VarHandle" ∧ (parseMethodDescriptor y.desc).map (fun d => d.parameters.length) = some 3) (hR : dc + 1 ≤ R.frames ∧ 8 + (maxL + 11) + 30 * dc ≤ R.locals) (hC : cells ≤ R.cells ∧ slots ≤ R.slots) (hrm : (st.map fun v => v.category).sum ≤ 8) (hdg : decode cc pc = .ok (.invokevirtual index, 3)) (kk : ∀ (r : Int32) (u : MSt), post r u → TW p l e R s m args below meth c cells slots Q D A nL (wM am dI u) (pc + 3) lv (.int r :: st)) : TW p l e R s m args below meth c cells slots Q D A nL (wM am dI x) pc lv (.int a3 :: .int a2 :: .int a1 :: .ref (am 0) :: st) :=
  tw_calli C (As := [.int a1, .int a2, .int a3]) hM rfl rfl hq h1 h2 h3 (hq ▸ q23) h5 hd hR hC rfl hrm hdg kk
theorem tm_callv0 (C : Cx p s m args meth c D A nL cc RX1 (tyT dB dI) ret) {y : MethodName} {bytes : ByteArray} {maxL dc index : Nat} {post : MSt → Prop} (hM : TMv l y bytes maxL dc D (tyT dB dI) (.ref (am 0) :: []) (wM am dI x) (wM am dI) post) (hq : RX1 = y.cls) (h1 : Cond.methodLink RX1 index y ∈ lw_all) (h2 : Cond.instanceMethod y ∈ lw_all) (h3 : Cond.selects y.cls y y ∈ lw_all) (h5 : Cond.code y bytes maxL none ∈ lw_all) (hd : y.cls = y.cls ∧ y.cls ≠ "java/lang/invoke/MethodHandle" ∧ y.cls ≠ "java/lang/invoke/VarHandle" ∧ (parseMethodDescriptor y.desc).map (fun d => d.parameters.length) = some 0) (hR : dc + 1 ≤ R.frames ∧ 8 + (maxL + 11) + 30 * dc ≤ R.locals) (hC : cells ≤ R.cells ∧ slots ≤ R.slots) (hrm : (st.map fun v => v.category).sum ≤ 8) (hdg : decode cc pc = .ok (.invokevirtual index, 3)) (kk : ∀ (u : MSt), post u → TW p l e R s m args below meth c cells slots Q D A nL (wM am dI u) (pc + 3) lv st) : TW p l e R s m args below meth c cells slots Q D A nL (wM am dI x) pc lv (.ref (am 0) :: st) :=
  tw_callv C (As := []) hM rfl rfl hq h1 h2 h3 (hq ▸ q23) h5 hd hR hC rfl hrm hdg kk
theorem tm_callv1 (C : Cx p s m args meth c D A nL cc RX1 (tyT dB dI) ret) {y : MethodName} {bytes : ByteArray} {maxL dc index : Nat} {a1 : Int32} {post : MSt → Prop} (hM : TMv l y bytes maxL dc D (tyT dB dI) (.ref (am 0) :: [.int a1]) (wM am dI x) (wM am dI) post) (hq : RX1 = y.cls) (h1 : Cond.methodLink RX1 index y ∈ lw_all) (h2 : Cond.instanceMethod y ∈ lw_all) (h3 : Cond.selects y.cls y y ∈ lw_all) (h5 : Cond.code y bytes maxL none ∈ lw_all) (hd : y.cls = y.cls ∧ y.cls ≠ "java/lang/invoke/MethodHandle" ∧ y.cls ≠ "java/lang/invoke/VarHandle" ∧ (parseMethodDescriptor y.desc).map (fun d => d.parameters.length) = some 1) (hR : dc + 1 ≤ R.frames ∧ 8 + (maxL + 11) + 30 * dc ≤ R.locals) (hC : cells ≤ R.cells ∧ slots ≤ R.slots) (hrm : (st.map fun v => v.category).sum ≤ 8) (hdg : decode cc pc = .ok (.invokevirtual index, 3)) (kk : ∀ (u : MSt), post u → TW p l e R s m args below meth c cells slots Q D A nL (wM am dI u) (pc + 3) lv st) : TW p l e R s m args below meth c cells slots Q D A nL (wM am dI x) pc lv (.int a1 :: .ref (am 0) :: st) :=
  tw_callv C (As := [.int a1]) hM rfl rfl hq h1 h2 h3 (hq ▸ q23) h5 hd hR hC rfl hrm hdg kk
theorem tm_callv2 (C : Cx p s m args meth c D A nL cc RX1 (tyT dB dI) ret) {y : MethodName} {bytes : ByteArray} {maxL dc index : Nat} {a1 a2 : Int32} {post : MSt → Prop} (hM : TMv l y bytes maxL dc D (tyT dB dI) (.ref (am 0) :: [.int a1, .int a2]) (wM am dI x) (wM am dI) post) (hq : RX1 = y.cls) (h1 : Cond.methodLink RX1 index y ∈ lw_all) (h2 : Cond.instanceMethod y ∈ lw_all) (h3 : Cond.selects y.cls y y ∈ lw_all) (h5 : Cond.code y bytes maxL none ∈ lw_all) (hd : y.cls = y.cls ∧ y.cls ≠ "java/lang/invoke/MethodHandle" ∧ y.cls ≠ "java/lang/invoke/VarHandle" ∧ (parseMethodDescriptor y.desc).map (fun d => d.parameters.length) = some 2) (hR : dc + 1 ≤ R.frames ∧ 8 + (maxL + 11) + 30 * dc ≤ R.locals) (hC : cells ≤ R.cells ∧ slots ≤ R.slots) (hrm : (st.map fun v => v.category).sum ≤ 8) (hdg : decode cc pc = .ok (.invokevirtual index, 3)) (kk : ∀ (u : MSt), post u → TW p l e R s m args below meth c cells slots Q D A nL (wM am dI u) (pc + 3) lv st) : TW p l e R s m args below meth c cells slots Q D A nL (wM am dI x) pc lv (.int a2 :: .int a1 :: .ref (am 0) :: st) :=
  tw_callv C (As := [.int a1, .int a2]) hM rfl rfl hq h1 h2 h3 (hq ▸ q23) h5 hd hR hC rfl hrm hdg kk
theorem tm_callv3 (C : Cx p s m args meth c D A nL cc RX1 (tyT dB dI) ret) {y : MethodName} {bytes : ByteArray} {maxL dc index : Nat} {a1 a2 a3 : Int32} {post : MSt → Prop} (hM : TMv l y bytes maxL dc D (tyT dB dI) (.ref (am 0) :: [.int a1, .int a2, .int a3]) (wM am dI x) (wM am dI) post) (hq : RX1 = y.cls) (h1 : Cond.methodLink RX1 index y ∈ lw_all) (h2 : Cond.instanceMethod y ∈ lw_all) (h3 : Cond.selects y.cls y y ∈ lw_all) (h5 : Cond.code y bytes maxL none ∈ lw_all) (hd : y.cls = y.cls ∧ y.cls ≠ "java/lang/invoke/MethodHandle" ∧ y.cls ≠ "java/lang/invoke/VarHandle" ∧ (parseMethodDescriptor y.desc).map (fun d => d.parameters.length) = some 3) (hR : dc + 1 ≤ R.frames ∧ 8 + (maxL + 11) + 30 * dc ≤ R.locals) (hC : cells ≤ R.cells ∧ slots ≤ R.slots) (hrm : (st.map fun v => v.category).sum ≤ 8) (hdg : decode cc pc = .ok (.invokevirtual index, 3)) (kk : ∀ (u : MSt), post u → TW p l e R s m args below meth c cells slots Q D A nL (wM am dI u) (pc + 3) lv st) : TW p l e R s m args below meth c cells slots Q D A nL (wM am dI x) pc lv (.int a3 :: .int a2 :: .int a1 :: .ref (am 0) :: st) :=
  tw_callv C (As := [.int a1, .int a2, .int a3]) hM rfl rfl hq h1 h2 h3 (hq ▸ q23) h5 hd hR hC rfl hrm hdg kk
theorem tm_st {y : MSt} (h : x = y) (k : TW p l e R s m args below meth c cells slots Q D A nL (wM am dI y) pc lv st) : TW p l e R s m args below meth c cells slots Q D A nL (wM am dI x) pc lv st := h ▸ k
end TMR
end
section
set_option maxRecDepth 100000
def bitm (w : Int32) (i : Nat) : Bool := decide ((w >>> (nI i &&& 31)) &&& nI 1 = nI 1)
def bitO (y : MSt) (t : Option Nat) (i : Nat) : Bool := t.elim false (fun t => bitm (mks y t) i)
def inV (y : MSt) (t : Option Nat) (k : Int32) : Int32 := t.elim 0 (fun t => if k < 0 then 0 else if nI 31 < k then 0 else if (mks y t >>> (k &&& 31)) &&& nI 1 = nI 1 then 1 else 0)
theorem inV_nI (y : MSt) (t : Option Nat) {i : Nat} (hi : i < 32) : inV y t (nI i) = if bitO y t i = true then 1 else 0 := by
  unfold inV bitO bitm
  cases t with
  | none => rfl
  | some t =>
    show (if nI i < 0 then (0 : Int32) else if nI 31 < nI i then 0 else if (mks y t >>> (nI i &&& 31)) &&& nI 1 = nI 1 then 1 else 0) = if decide ((mks y t >>> (nI i &&& 31)) &&& nI 1 = nI 1) = true then (1 : Int32) else 0
    rw [if_neg (nI_pos (by omega)), if_neg (nI_nlt (by omega) (by omega))]
    by_cases h : (mks y t >>> (nI i &&& 31)) &&& nI 1 = nI 1
    · rw [if_pos h, if_pos (decide_eq_true h)]
    · rw [if_neg h, decide_eq_false h]
      rfl
def tbO (y : MSt) (n : Int32) : Option Nat := if n = 0 then some 0 else if ¬ n < nI (mlo y) ∧ ¬ nI (mhi y) < n then some (1 + vix n) else none
theorem tbO_lt {y : MSt} {n : Int32} {t : Nat} (h : tbO y n = some t) : t < 5 := by
  unfold tbO at h
  by_cases h1 : n = 0
  · rw [if_pos h1] at h
    cases h
    decide
  · rw [if_neg h1] at h
    by_cases h2 : ¬ n < nI (mlo y) ∧ ¬ nI (mhi y) < n
    · rw [if_pos h2] at h
      cases h
      have : vix n < 4 := Nat.mod_lt _ (by decide)
      omega
    · rw [if_neg h2] at h
      cases h
theorem vix_nI {N : Nat} (h : N < 2 ^ 31) : vix (nI N) = N % 4 := by
  unfold vix
  rw [pk_tn (by omega)]
def cpM (y : MSt) (fr to : Nat) : MSt := zvs (zks y (upd (mks y) to (mks y fr))) (cpy (mvs y) (32 * fr) (32 * to) 32)
def ptM (y : MSt) (k : Nat) (v : Int32) : MSt := zvs (zks y (upd (mks y) 0 (mks y 0 ||| (nI 1 <<< (nI k &&& 31))))) (upd (mvs y) k v)
def rmM (y : MSt) (k : Int32) : MSt := zks y (upd (mks y) 0 (mks y 0 &&& ((nI 1 <<< (k &&& 31)) ^^^ (-1))))
def svM (y : MSt) : MSt := zlo (cpM (zhi y (mhi y + 1)) 0 (1 + (mhi y + 1) % 4)) (if 4 ≤ mhi y + 1 - mlo y then mhi y + 1 - 3 else mlo y)
def rkO (y : MSt) (t : Option Nat) (k : Int32) : Nat → Nat
  | 0 => 0
  | i + 1 => rkO y t k i + if nI i < k ∧ bitO y t i = true then 1 else 0
def lsV (t : Option Nat) (c : Nat) : Int32 := t.elim (-1) (fun _ => nI c)
def smM (y : MSt) (t : Option Nat) (a b : Int32) : Nat → Int32
  | 0 => 0
  | i + 1 => if ¬ nI i < a ∧ ¬ b < nI i ∧ bitO y t i = true then smM y t a b i + mvs y (32 * t.getD 0 + i) else smM y t a b i
def smeM (y : MSt) (t u i : Nat) : Bool := decide (bitm (mks y t) i = bitm (mks y u) i) && (!(bitm (mks y t) i) || decide (mvs y (32 * t + i) = mvs y (32 * u + i)))
def dfM (y : MSt) (t u : Nat) : Nat → Int32
  | 0 => 0
  | i + 1 => if smeM y t u i = true then dfM y t u i else dfM y t u i ||| (nI 1 <<< (nI i &&& 31))
section WALK6
variable {l : Launch} {D : va_G} {am : Nat → Nat} {dB dI : ClassId}
theorem u_table (y : MSt) (n : Int32) (hlo : mlo y < 2 ^ 31) : TMi l yX1_table cX1_table 2 (some .int) 0 D (tyT dB dI) [.ref (am 0), .int n] (wM am dI y) (wM am dI) (fun a u => a = oI (tbO y n) ∧ u = y) := by
  refine TMi.of (by decide) (Nat.le_of_ble_eq_true rfl) (fun p e s m below meth c A C => ?_)
  refine tw_iload_n C dX1_table_0 rfl ?_
  refine tw_if_ne C 8 dX1_table_1 (by decide)  (fun h => ?_) (fun h => ?_)
  · refine tw_iload_n C dX1_table_8 rfl ?_
    refine tw_aload_n C dX1_table_9 rfl ?_
    refine tm_get_lo C _ dX1_table_10 rfl ?_
    refine tw_icmp_lt C 32 dX1_table_13 (by decide)  (fun h2 => ?_) (fun h2 => ?_)
    · refine tw_iconst C (-1) dX1_table_32 (by decide) ?_
      exact tw_iret C y dX1_table_33 rfl rfl ⟨by unfold tbO; rw [if_neg h, if_neg (fun q => q.1 h2)]; rfl, rfl⟩
    · refine tw_iload_n C dX1_table_16 rfl ?_
      refine tw_aload_n C dX1_table_17 rfl ?_
      refine tm_get_hi C _ dX1_table_18 rfl ?_
      refine tw_icmp_gt C 32 dX1_table_21 (by decide)  (fun h3 => ?_) (fun h3 => ?_)
      · refine tw_iconst C (-1) dX1_table_32 (by decide) ?_
        exact tw_iret C y dX1_table_33 rfl rfl ⟨by unfold tbO; rw [if_neg h, if_neg (fun q => q.2 h3)]; rfl, rfl⟩
      · have hn : ¬ n < 0 := fun q => h2 (Int32.lt_of_lt_of_le q (nI_pos' hlo))
        obtain ⟨N, hN, rfl⟩ := nI_of hn
        refine tw_iconst C (nI 1) dX1_table_24 (by decide) ?_
        refine tw_iload_n C dX1_table_25 rfl ?_
        refine tw_iconst C (nI 4) dX1_table_26 (by decide) ?_
        refine tw_irem C dX1_table_27 (by decide) ?_
        refine tw_top (congrArg Value.int (pk_rem hN (by decide) (by decide))) ?_
        refine tn_iadd C dX1_table_28 ?_
        refine tw_goto C 33 dX1_table_29 (by decide) ?_
        exact tw_iret C y dX1_table_33 rfl rfl ⟨by unfold tbO; rw [if_neg h, if_pos ⟨h2, h3⟩, vix_nI hN]; rfl, rfl⟩
  · refine tw_iconst C (nI 0) dX1_table_4 (by decide) ?_
    refine tw_goto C 33 dX1_table_5 (by decide) ?_
    exact tw_iret C y dX1_table_33 rfl rfl ⟨by unfold tbO; rw [if_pos h]; rfl, rfl⟩
theorem u_in (y : MSt) (t : Option Nat) (k : Int32) (ht : ∀ q, t = some q → q < 5) : TMi l yX1_in cX1_in 3 (some .boolean) 0 D (tyT dB dI) [.ref (am 0), .int (oI t), .int k] (wM am dI y) (wM am dI) (fun a u => a = inV y t k ∧ u = y) := by
  refine TMi.of (by decide) (Nat.le_of_ble_eq_true rfl) (fun p e s m below meth c A C => ?_)
  refine tw_iload_n C dX1_in_0 rfl ?_
  cases t with
  | none =>
    refine tw_if_lt C 32 dX1_in_1 (by decide)  (fun h => ?_) (fun h => ?_)
    · refine tw_iconst C (nI 0) dX1_in_32 (by decide) ?_
      exact tw_iret C y dX1_in_33 rfl rfl ⟨rfl, rfl⟩
    · exact absurd (by decide) h
  | some t =>
    have ht5 := ht t rfl
    have eV : inV y (some t) k = if k < 0 then 0 else if nI 31 < k then 0 else if (mks y t >>> (k &&& 31)) &&& nI 1 = nI 1 then 1 else 0 := rfl
    refine tn_if_lt C 32 dX1_in_1 (by decide) (by omega) ?_
    refine tw_iload_n C dX1_in_4 rfl ?_
    refine tw_if_lt C 32 dX1_in_5 (by decide)  (fun h => ?_) (fun h => ?_)
    · refine tw_iconst C (nI 0) dX1_in_32 (by decide) ?_
      exact tw_iret C y dX1_in_33 rfl rfl ⟨by rw [eV, if_pos h]; rfl, rfl⟩
    · refine tw_iload_n C dX1_in_8 rfl ?_
      refine tw_bipush C (nI 31) dX1_in_9 (by decide) ?_
      refine tw_icmp_gt C 32 dX1_in_11 (by decide)  (fun h2 => ?_) (fun h2 => ?_)
      · refine tw_iconst C (nI 0) dX1_in_32 (by decide) ?_
        exact tw_iret C y dX1_in_33 rfl rfl ⟨by rw [eV, if_neg h, if_pos h2]; rfl, rfl⟩
      · refine tw_aload_n C dX1_in_14 rfl ?_
        refine tm_get_ks C dX1_in_15 ?_
        refine tw_iload_n C dX1_in_18 rfl ?_
        refine tm_ld_ks C _ dX1_in_19 (by omega) rfl ?_
        refine tw_iload_n C dX1_in_20 rfl ?_
        refine tw_ishr C dX1_in_21 ?_
        refine tw_iconst C (nI 1) dX1_in_22 (by decide) ?_
        refine tw_iand C dX1_in_23 ?_
        refine tw_iconst C (nI 1) dX1_in_24 (by decide) ?_
        refine tw_icmp_ne C 32 dX1_in_25 (by decide)  (fun h3 => ?_) (fun h3 => ?_)
        · refine tw_iconst C (nI 0) dX1_in_32 (by decide) ?_
          exact tw_iret C y dX1_in_33 rfl rfl ⟨by rw [eV, if_neg h, if_neg h2, if_neg h3]; rfl, rfl⟩
        · refine tw_iconst C (nI 1) dX1_in_28 (by decide) ?_
          refine tw_goto C 33 dX1_in_29 (by decide) ?_
          exact tw_iret C y dX1_in_33 rfl rfl ⟨by rw [eV, if_neg h, if_neg h2, if_pos h3]; rfl, rfl⟩
theorem u_copy (y : MSt) (fr to : Nat) (h1 : fr < 5) (h2 : to < 5) (hne : fr ≠ to) : TMv l yX1_copy cX1_copy 4 0 D (tyT dB dI) [.ref (am 0), .int (nI fr), .int (nI to)] (wM am dI y) (wM am dI) (fun u => u = cpM y fr to) := by
  refine TMv.of (by decide) (Nat.le_of_ble_eq_true rfl) (fun p e s m below meth c A C => ?_)
  refine tw_aload_n C dX1_copy_0 rfl ?_
  refine tm_get_ks C dX1_copy_1 ?_
  refine tw_iload_n C dX1_copy_4 rfl ?_
  refine tw_aload_n C dX1_copy_5 rfl ?_
  refine tm_get_ks C dX1_copy_6 ?_
  refine tw_iload_n C dX1_copy_9 rfl ?_
  refine tm_ld_ks C _ dX1_copy_10 (by omega) rfl ?_
  refine tm_st_ks C dX1_copy_11 (by omega) ?_
  refine tw_iconst C (nI 0) dX1_copy_12 (by decide) ?_
  refine tw_istore_n C dX1_copy_13 (by decide) rfl ?_
  refine tm_st (y := zvs (zks y (upd (mks y) to (mks y fr))) (cpy (mvs y) (32 * fr) (32 * to) 0)) (by rw [cpy_0]) ?_
  refine tw_loop (fun i => wM am dI (zvs (zks y (upd (mks y) to (mks y fr))) (cpy (mvs y) (32 * fr) (32 * to) i))) (fun i => [(0, .ref (am 0)), (1, .int (nI fr)), (2, .int (nI to)), (3, .int (nI i))]) (fun i => i ≤ 32) (fun i => 32 - i) ?_ 0 (Nat.zero_le _)
  intro i hi ih
  refine tw_iload_n C dX1_copy_14 rfl ?_
  refine tw_bipush C (nI 32) dX1_copy_15 (by decide) ?_
  refine tn_icmp_ge C 48 dX1_copy_17 (by decide) (by omega) (by omega)  (fun h => ?_) (fun h => ?_)
  · have he : i = 32 := by omega
    subst he
    exact tw_vret C (cpM y fr to) dX1_copy_48 rfl rfl
  · refine tw_aload_n C dX1_copy_20 rfl ?_
    refine tm_get_vs C dX1_copy_21 ?_
    refine tw_bipush C (nI 32) dX1_copy_24 (by decide) ?_
    refine tw_iload_n C dX1_copy_26 rfl ?_
    refine tn_imul C dX1_copy_27 ?_
    refine tw_iload_n C dX1_copy_28 rfl ?_
    refine tn_iadd C dX1_copy_29 ?_
    refine tw_aload_n C dX1_copy_30 rfl ?_
    refine tm_get_vs C dX1_copy_31 ?_
    refine tw_bipush C (nI 32) dX1_copy_34 (by decide) ?_
    refine tw_iload_n C dX1_copy_36 rfl ?_
    refine tn_imul C dX1_copy_37 ?_
    refine tw_iload_n C dX1_copy_38 rfl ?_
    refine tn_iadd C dX1_copy_39 ?_
    refine tm_ld_vs C (mvs y (32 * fr + i)) dX1_copy_40 (by omega) (cpy_out _ (by omega)) ?_
    refine tm_st_vs C dX1_copy_41 (by omega) ?_
    refine tn_inc C dX1_copy_42 rfl (by decide) rfl ?_
    refine tw_goto C 14 dX1_copy_45 (by decide) ?_
    refine tm_st ?_ (ih (i + 1) (by omega) (by omega))
    rw [← cpy_stepI]
theorem u_put (y : MSt) (k v : Int32) : TMi l yX1_put cX1_put 3 (some .boolean) 0 D (tyT dB dI) [.ref (am 0), .int k, .int v] (wM am dI y) (wM am dI) (fun a u => (a = 0 ∧ (k < 0 ∨ nI 31 < k) ∧ u = y) ∨ (a = 1 ∧ ∃ K, K < 32 ∧ k = nI K ∧ u = ptM y K v)) := by
  refine TMi.of (by decide) (Nat.le_of_ble_eq_true rfl) (fun p e s m below meth c A C => ?_)
  refine tw_iload_n C dX1_put_0 rfl ?_
  refine tw_if_lt C 10 dX1_put_1 (by decide)  (fun h => ?_) (fun h => ?_)
  · refine tw_iconst C (nI 0) dX1_put_10 (by decide) ?_
    exact tw_iret C y dX1_put_11 rfl rfl (Or.inl ⟨rfl, Or.inl h, rfl⟩)
  · refine tw_iload_n C dX1_put_4 rfl ?_
    refine tw_bipush C (nI 31) dX1_put_5 (by decide) ?_
    refine tw_icmp_le C 12 dX1_put_7 (by decide)  (fun h2 => ?_) (fun h2 => ?_)
    · obtain ⟨K, hK, rfl⟩ := nI_of h
      have hK2 : K ≤ 31 := (nI_leI hK (by decide)).mp h2
      refine tw_aload_n C dX1_put_12 rfl ?_
      refine tm_get_ks C dX1_put_13 ?_
      refine tw_iconst C (nI 0) dX1_put_16 (by decide) ?_
      refine tw_aload_n C dX1_put_17 rfl ?_
      refine tm_get_ks C dX1_put_18 ?_
      refine tw_iconst C (nI 0) dX1_put_21 (by decide) ?_
      refine tm_ld_ks C _ dX1_put_22 (by omega) rfl ?_
      refine tw_iconst C (nI 1) dX1_put_23 (by decide) ?_
      refine tw_iload_n C dX1_put_24 rfl ?_
      refine tw_ishl C dX1_put_25 ?_
      refine tw_ior C dX1_put_26 ?_
      refine tm_st_ks C dX1_put_27 (by omega) ?_
      refine tw_aload_n C dX1_put_28 rfl ?_
      refine tm_get_vs C dX1_put_29 ?_
      refine tw_iload_n C dX1_put_32 rfl ?_
      refine tw_iload_n C dX1_put_33 rfl ?_
      refine tm_st_vs C dX1_put_34 (by omega) ?_
      refine tw_iconst C (nI 1) dX1_put_35 (by decide) ?_
      exact tw_iret C (ptM y K v) dX1_put_36 rfl rfl (Or.inr ⟨rfl, K, by omega, rfl, rfl⟩)
    · refine tw_iconst C (nI 0) dX1_put_10 (by decide) ?_
      exact tw_iret C y dX1_put_11 rfl rfl (Or.inl ⟨rfl, Or.inr (Int32.not_le.mp h2), rfl⟩)
theorem u_remove (y : MSt) (k : Int32) : TMi l yX1_remove cX1_remove 2 (some .boolean) 1 D (tyT dB dI) [.ref (am 0), .int k] (wM am dI y) (wM am dI) (fun a u => (a = 0 ∧ inV y (some 0) k = 0 ∧ u = y) ∨ (a = 1 ∧ inV y (some 0) k ≠ 0 ∧ u = rmM y k)) := by
  refine TMi.of (by decide) (Nat.le_of_ble_eq_true rfl) (fun p e s m below meth c A C => ?_)
  refine tw_aload_n C dX1_remove_0 rfl ?_
  refine tw_iconst C (nI 0) dX1_remove_1 (by decide) ?_
  refine tw_iload_n C dX1_remove_2 rfl ?_
  refine tm_calli2 C (u_in y (some 0) k (fun q h => by cases h; decide)) rfl q229 q231 qs18 q232 (by decide +kernel) (by decide) (by decide) (Nat.le_of_ble_eq_true rfl) dX1_remove_3  (fun a u hu => ?_)
  obtain ⟨rfl, rfl⟩ := hu
  refine tw_if_ne C 11 dX1_remove_6 (by decide)  (fun h => ?_) (fun h => ?_)
  · refine tw_aload_n C dX1_remove_11 rfl ?_
    refine tm_get_ks C dX1_remove_12 ?_
    refine tw_iconst C (nI 0) dX1_remove_15 (by decide) ?_
    refine tw_aload_n C dX1_remove_16 rfl ?_
    refine tm_get_ks C dX1_remove_17 ?_
    refine tw_iconst C (nI 0) dX1_remove_20 (by decide) ?_
    refine tm_ld_ks C _ dX1_remove_21 (by omega) rfl ?_
    refine tw_iconst C (nI 1) dX1_remove_22 (by decide) ?_
    refine tw_iload_n C dX1_remove_23 rfl ?_
    refine tw_ishl C dX1_remove_24 ?_
    refine tw_iconst C (-1) dX1_remove_25 (by decide) ?_
    refine tw_ixor C dX1_remove_26 ?_
    refine tw_iand C dX1_remove_27 ?_
    refine tm_st_ks C dX1_remove_28 (by omega) ?_
    refine tw_iconst C (nI 1) dX1_remove_29 (by decide) ?_
    exact tw_iret C (rmM u k) dX1_remove_30 rfl rfl (Or.inr ⟨rfl, h, rfl⟩)
  · refine tw_iconst C (nI 0) dX1_remove_9 (by decide) ?_
    exact tw_iret C u dX1_remove_10 rfl rfl (Or.inl ⟨rfl, h, rfl⟩)
theorem u_save (y : MSt) (h1 : mlo y ≤ mhi y + 1) (h2 : mhi y < 2 ^ 30) : TMi l yX1_save cX1_save 1 (some .int) 1 D (tyT dB dI) [.ref (am 0)] (wM am dI y) (wM am dI) (fun a u => a = nI (mhi y + 1) ∧ u = svM y) := by
  refine TMi.of (by decide) (Nat.le_of_ble_eq_true rfl) (fun p e s m below meth c A C => ?_)
  refine tw_aload_n C dX1_save_0 rfl ?_
  refine tw_dup C dX1_save_1 rfl ?_
  refine tm_get_hi C _ dX1_save_2 rfl ?_
  refine tw_iconst C (nI 1) dX1_save_5 (by decide) ?_
  refine tn_iadd C dX1_save_6 ?_
  refine tm_put_hi C dX1_save_7 ?_
  refine tw_aload_n C dX1_save_10 rfl ?_
  refine tw_iconst C (nI 0) dX1_save_11 (by decide) ?_
  refine tw_iconst C (nI 1) dX1_save_12 (by decide) ?_
  refine tw_aload_n C dX1_save_13 rfl ?_
  refine tm_get_hi C (mhi y + 1) dX1_save_14 rfl ?_
  refine tw_iconst C (nI 4) dX1_save_17 (by decide) ?_
  refine tw_irem C dX1_save_18 (by decide) ?_
  refine tw_top (congrArg Value.int (pk_rem (by omega) (by decide) (by decide))) ?_
  refine tn_iadd C dX1_save_19 ?_
  refine tm_callv2 C (u_copy (zhi y (mhi y + 1)) 0 (1 + (mhi y + 1) % 4) (by decide) (by omega) (by omega)) rfl q237 q239 qs19 q240 (by decide +kernel) (by decide) (by decide) (Nat.le_of_ble_eq_true rfl) dX1_save_20  (fun u hu => ?_)
  subst hu
  refine tw_aload_n C dX1_save_23 rfl ?_
  refine tw_aload_n C dX1_save_24 rfl ?_
  refine tm_get_hi C (mhi y + 1) dX1_save_25 rfl ?_
  refine tw_aload_n C dX1_save_28 rfl ?_
  refine tm_get_lo C (mlo y) dX1_save_29 rfl ?_
  refine tn_isub C dX1_save_32 (by omega) ?_
  refine tw_iconst C (nI 4) dX1_save_33 (by decide) ?_
  refine tn_icmp_lt C 46 dX1_save_34 (by decide) (by omega) (by omega)  (fun h => ?_) (fun h => ?_)
  · refine tw_aload_n C dX1_save_46 rfl ?_
    refine tm_get_lo C (mlo y) dX1_save_47 rfl ?_
    refine tm_put_lo C dX1_save_50 ?_
    refine tw_aload_n C dX1_save_53 rfl ?_
    refine tm_get_hi C _ dX1_save_54 rfl ?_
    exact tw_iret C (svM y) dX1_save_57 rfl (by unfold svM; rw [if_neg (by omega)]) ⟨rfl, rfl⟩
  · refine tw_aload_n C dX1_save_37 rfl ?_
    refine tm_get_hi C (mhi y + 1) dX1_save_38 rfl ?_
    refine tw_iconst C (nI 3) dX1_save_41 (by decide) ?_
    refine tn_isub C dX1_save_42 (by omega) ?_
    refine tw_goto C 50 dX1_save_43 (by decide) ?_
    refine tm_put_lo C dX1_save_50 ?_
    refine tw_aload_n C dX1_save_53 rfl ?_
    refine tm_get_hi C _ dX1_save_54 rfl ?_
    exact tw_iret C (svM y) dX1_save_57 rfl (by unfold svM; rw [if_pos h]) ⟨rfl, rfl⟩
theorem u_goBack (y : MSt) (n : Int32) (hlo : mlo y < 2 ^ 31) : TMi l yX1_goBack cX1_goBack 3 (some .boolean) 1 D (tyT dB dI) [.ref (am 0), .int n] (wM am dI y) (wM am dI) (fun a u => (a = 0 ∧ (n = 0 ∨ tbO y n = none) ∧ u = y) ∨ (a = 1 ∧ ∃ N, N < 2 ^ 31 ∧ n = nI N ∧ n ≠ 0 ∧ tbO y n = some (1 + vix n) ∧ u = zhi (cpM y (1 + vix n) 0) N)) := by
  refine TMi.of (by decide) (Nat.le_of_ble_eq_true rfl) (fun p e s m below meth c A C => ?_)
  refine tw_aload_n C dX1_goBack_0 rfl ?_
  refine tw_iload_n C dX1_goBack_1 rfl ?_
  refine tm_calli1 C (u_table y n hlo) rfl q245 q247 qs20 q248 (by decide +kernel) (by decide) (by decide) (Nat.le_of_ble_eq_true rfl) dX1_goBack_2  (fun a u hu => ?_)
  obtain ⟨rfl, rfl⟩ := hu
  by_cases h0 : n = 0
  · have e1 : tbO u n = some 0 := by unfold tbO; rw [if_pos h0]
    rw [e1]
    refine tw_istore_n C dX1_goBack_5 (by decide) rfl ?_
    refine tw_iload_n C dX1_goBack_6 rfl ?_
    refine tw_iconst C (nI 1) dX1_goBack_7 (by decide) ?_
    refine tn_icmp_ge C 13 dX1_goBack_8 (by decide) (by omega) (by omega) (fun h => ?_) (fun h => ?_)
    · omega
    · refine tw_iconst C (nI 0) dX1_goBack_11 (by decide) ?_
      exact tw_iret C u dX1_goBack_12 rfl rfl (Or.inl ⟨rfl, Or.inl h0, rfl⟩)
  · by_cases hk : ¬ n < nI (mlo u) ∧ ¬ nI (mhi u) < n
    · have e1 : tbO u n = some (1 + vix n) := by unfold tbO; rw [if_neg h0, if_pos hk]
      have hv : vix n < 4 := Nat.mod_lt _ (by decide)
      rw [e1]
      refine tw_istore_n C dX1_goBack_5 (by decide) rfl ?_
      refine tw_iload_n C dX1_goBack_6 rfl ?_
      refine tw_iconst C (nI 1) dX1_goBack_7 (by decide) ?_
      refine tn_icmp_ge C 13 dX1_goBack_8 (by decide) (show 1 + vix n < 2 ^ 31 by omega) (by omega) (fun h => ?_) (fun h => ?_)
      · refine tw_aload_n C dX1_goBack_13 rfl ?_
        refine tw_iload_n C dX1_goBack_14 rfl ?_
        refine tw_iconst C (nI 0) dX1_goBack_15 (by decide) ?_
        refine tm_callv2 C (u_copy u (1 + vix n) 0 (by omega) (by decide) (by omega)) rfl q237 q239 qs19 q240 (by decide +kernel) (by decide) (by decide) (Nat.le_of_ble_eq_true rfl) dX1_goBack_16  (fun v hv => ?_)
        subst hv
        have hn : ¬ n < 0 := fun q => hk.1 (Int32.lt_of_lt_of_le q (nI_pos' hlo))
        obtain ⟨N, hN, rfl⟩ := nI_of hn
        refine tw_aload_n C dX1_goBack_19 rfl ?_
        refine tw_iload_n C dX1_goBack_20 rfl ?_
        refine tm_put_hi C dX1_goBack_21 ?_
        refine tw_iconst C (nI 1) dX1_goBack_24 (by decide) ?_
        exact tw_iret C (zhi (cpM u (1 + vix (nI N)) 0) N) dX1_goBack_25 rfl rfl (Or.inr ⟨rfl, N, hN, rfl, h0, rfl, rfl⟩)
      · omega
    · have e1 : tbO u n = none := by unfold tbO; rw [if_neg h0, if_neg hk]
      rw [e1]
      refine tw_istore_n C dX1_goBack_5 (by decide) rfl ?_
      refine tw_iload_n C dX1_goBack_6 rfl ?_
      refine tw_iconst C (nI 1) dX1_goBack_7 (by decide) ?_
      refine tw_icmp_ge C 13 dX1_goBack_8 (by decide)  (fun h => ?_) (fun h => ?_)
      · exact absurd h (by decide)
      · refine tw_iconst C (nI 0) dX1_goBack_11 (by decide) ?_
        exact tw_iret C u dX1_goBack_12 rfl rfl (Or.inl ⟨rfl, Or.inr rfl, rfl⟩)
theorem u_kept (y : MSt) : TMi l yX1_kept cX1_kept 1 (some .int) 0 D (tyT dB dI) [.ref (am 0)] (wM am dI y) (wM am dI) (fun a u => a = (if nI (mlo y) ≤ nI (mhi y) then nI (mlo y + 1000 * mhi y) else 0) ∧ u = y) := by
  refine TMi.of (by decide) (Nat.le_of_ble_eq_true rfl) (fun p e s m below meth c A C => ?_)
  refine tw_aload_n C dX1_kept_0 rfl ?_
  refine tm_get_hi C _ dX1_kept_1 rfl ?_
  refine tw_aload_n C dX1_kept_4 rfl ?_
  refine tm_get_lo C _ dX1_kept_5 rfl ?_
  refine tw_icmp_ge C 15 dX1_kept_8 (by decide)  (fun h => ?_) (fun h => ?_)
  · refine tw_aload_n C dX1_kept_15 rfl ?_
    refine tm_get_lo C _ dX1_kept_16 rfl ?_
    refine tw_sipush C (nI 1000) dX1_kept_19 (by decide) ?_
    refine tw_aload_n C dX1_kept_22 rfl ?_
    refine tm_get_hi C _ dX1_kept_23 rfl ?_
    refine tn_imul C dX1_kept_26 ?_
    refine tn_iadd C dX1_kept_27 ?_
    exact tw_iret C y dX1_kept_28 rfl rfl ⟨by rw [if_pos h], rfl⟩
  · refine tw_iconst C (nI 0) dX1_kept_11 (by decide) ?_
    refine tw_goto C 28 dX1_kept_12 (by decide) ?_
    exact tw_iret C y dX1_kept_28 rfl rfl ⟨by rw [if_neg h]; rfl, rfl⟩
theorem inV_nar (y : MSt) (t : Option Nat) (k : Int32) : narrow .boolean (.int (inV y t k)) = .int (inV y t k) := by
  unfold inV
  cases t with
  | none => show narrow .boolean (.int (0 : Int32)) = .int (0 : Int32); rfl
  | some t =>
    show narrow .boolean (.int (if k < 0 then (0 : Int32) else if nI 31 < k then 0 else if (mks y t >>> (k &&& 31)) &&& nI 1 = nI 1 then 1 else 0)) = .int (if k < 0 then (0 : Int32) else if nI 31 < k then 0 else if (mks y t >>> (k &&& 31)) &&& nI 1 = nI 1 then 1 else 0)
    by_cases h1 : k < 0
    · rw [if_pos h1]; rfl
    · rw [if_neg h1]
      by_cases h2 : nI 31 < k
      · rw [if_pos h2]; rfl
      · rw [if_neg h2]
        by_cases h3 : (mks y t >>> (k &&& 31)) &&& nI 1 = nI 1
        · rw [if_pos h3]; rfl
        · rw [if_neg h3]; rfl
theorem u_has (y : MSt) (n k : Int32) (hlo : mlo y < 2 ^ 31) : TMi l yX1_has cX1_has 4 (some .boolean) 1 D (tyT dB dI) [.ref (am 0), .int n, .int k] (wM am dI y) (wM am dI) (fun a u => a = inV y (tbO y n) k ∧ u = y) := by
  refine TMi.of (by decide) (Nat.le_of_ble_eq_true rfl) (fun p e s m below meth c A C => ?_)
  refine tw_aload_n C dX1_has_0 rfl ?_
  refine tw_iload_n C dX1_has_1 rfl ?_
  refine tm_calli1 C (u_table y n hlo) rfl q245 q247 qs20 q248 (by decide +kernel) (by decide) (by decide) (Nat.le_of_ble_eq_true rfl) dX1_has_2  (fun a u hu => ?_)
  obtain ⟨rfl, rfl⟩ := hu
  refine tw_istore_n C dX1_has_5 (by decide) rfl ?_
  refine tw_aload_n C dX1_has_6 rfl ?_
  refine tw_iload_n C dX1_has_7 rfl ?_
  refine tw_iload_n C dX1_has_8 rfl ?_
  refine tm_calli2 C (u_in u (tbO u n) k (fun q h => tbO_lt h)) rfl q229 q231 qs18 q232 (by decide +kernel) (by decide) (by decide) (Nat.le_of_ble_eq_true rfl) dX1_has_9  (fun a v hv => ?_)
  obtain ⟨rfl, rfl⟩ := hv
  exact tw_iret C v dX1_has_12 (inV_nar _ _ _) rfl ⟨rfl, rfl⟩
end WALK6
end
section
set_option maxRecDepth 100000
theorem tbO_ok {y : MSt} {n : Int32} : ∀ q, tbO y n = some q → q < 5 := fun q h => tbO_lt h
section WALK7
variable {l : Launch} {D : va_G} {am : Nat → Nat} {dB dI : ClassId}
theorem u_get (y : MSt) (n k : Int32) (hlo : mlo y < 2 ^ 31) : TMi l yX1_get cX1_get 4 (some .int) 1 D (tyT dB dI) [.ref (am 0), .int n, .int k] (wM am dI y) (wM am dI) (fun a u => a = (if inV y (tbO y n) k = 0 then 0 else mvs y (32 * (tbO y n).getD 0 + k.toNatClampNeg)) ∧ u = y) := by
  refine TMi.of (by decide) (Nat.le_of_ble_eq_true rfl) (fun p e s m below meth c A C => ?_)
  refine tw_aload_n C dX1_get_0 rfl ?_
  refine tw_iload_n C dX1_get_1 rfl ?_
  refine tm_calli1 C (u_table y n hlo) rfl q245 q247 qs20 q248 (by decide +kernel) (by decide) (by decide) (Nat.le_of_ble_eq_true rfl) dX1_get_2  (fun a u hu => ?_)
  obtain ⟨rfl, rfl⟩ := hu
  have ht := tbO_ok (y := u) (n := n)
  generalize tbO u n = t at ht ⊢
  refine tw_istore_n C dX1_get_5 (by decide) rfl ?_
  refine tw_aload_n C dX1_get_6 rfl ?_
  refine tw_iload_n C dX1_get_7 rfl ?_
  refine tw_iload_n C dX1_get_8 rfl ?_
  refine tm_calli2 C (u_in u t k ht) rfl q229 q231 qs18 q232 (by decide +kernel) (by decide) (by decide) (Nat.le_of_ble_eq_true rfl) dX1_get_9  (fun a v hv => ?_)
  obtain ⟨rfl, rfl⟩ := hv
  refine tw_if_eq C 29 dX1_get_12 (by decide)  (fun h => ?_) (fun h => ?_)
  · refine tw_iconst C (nI 0) dX1_get_29 (by decide) ?_
    exact tw_iret C v dX1_get_30 rfl rfl ⟨by rw [if_pos h]; rfl, rfl⟩
  · cases t with
    | none => exact absurd rfl h
    | some t =>
      have ht5 := ht t rfl
      have e1 : inV v (some t) k = if k < 0 then 0 else if nI 31 < k then 0 else if (mks v t >>> (k &&& 31)) &&& nI 1 = nI 1 then 1 else 0 := rfl
      have hk0 : ¬ k < 0 := fun q => h (by rw [e1, if_pos q])
      have hk1 : ¬ nI 31 < k := fun q => h (by rw [e1, if_neg hk0, if_pos q])
      obtain ⟨K, hK, rfl⟩ := nI_of hk0
      have hK2 : K ≤ 31 := (nI_leI hK (by decide)).mp (Int32.not_lt.mp hk1)
      refine tw_aload_n C dX1_get_15 rfl ?_
      refine tm_get_vs C dX1_get_16 ?_
      refine tw_bipush C (nI 32) dX1_get_19 (by decide) ?_
      refine tw_iload_n C dX1_get_21 rfl ?_
      refine tn_imul C dX1_get_22 ?_
      refine tw_iload_n C dX1_get_23 rfl ?_
      refine tn_iadd C dX1_get_24 ?_
      refine tm_ld_vs C _ dX1_get_25 (by omega) rfl ?_
      refine tw_goto C 30 dX1_get_26 (by decide) ?_
      exact tw_iret C v dX1_get_30 rfl rfl ⟨by rw [if_neg h, nI_clamp hK]; rfl, rfl⟩
theorem u_rank (y : MSt) (n k : Int32) (hlo : mlo y < 2 ^ 31) : TMi l yX1_rank cX1_rank 6 (some .int) 1 D (tyT dB dI) [.ref (am 0), .int n, .int k] (wM am dI y) (wM am dI) (fun a u => a = lsV (tbO y n) (rkO y (tbO y n) k 32) ∧ u = y) := by
  refine TMi.of (by decide) (Nat.le_of_ble_eq_true rfl) (fun p e s m below meth c A C => ?_)
  refine tw_aload_n C dX1_rank_0 rfl ?_
  refine tw_iload_n C dX1_rank_1 rfl ?_
  refine tm_calli1 C (u_table y n hlo) rfl q245 q247 qs20 q248 (by decide +kernel) (by decide) (by decide) (Nat.le_of_ble_eq_true rfl) dX1_rank_2  (fun a u hu => ?_)
  obtain ⟨rfl, rfl⟩ := hu
  have ht := tbO_ok (y := u) (n := n)
  generalize tbO u n = t at ht ⊢
  have key : ∀ (g : Int32), g = lsV t 0 → TW p l e (rmD 1) s m [Value.ref (am 0), .int n, .int k].toArray below meth c 0 0 (MQ below (va_Qi (fun a u_1 => a = lsV t (rkO u t k 32) ∧ u_1 = u) (Bq D (tyT dB dI) A (wM am dI)) A) [Value.ref (am 0), .int n, .int k].toArray s 0 0 A) D A 6 (wM am dI u) 15 [(0, .ref (am 0)), (1, .int n), (2, .int k), (3, .int (oI t))] [.int g] := by
    intro g hg
    subst hg
    refine tw_istore C dX1_rank_15 (by decide) rfl ?_
    refine tw_iconst C (nI 0) dX1_rank_17 (by decide) ?_
    refine tw_istore C dX1_rank_18 (by decide) rfl ?_
    refine tw_loop (fun _ => wM am dI u) (fun i => [(0, .ref (am 0)), (1, .int n), (2, .int k), (3, .int (oI t)), (4, .int (lsV t (rkO u t k i))), (5, .int (nI i))]) (fun i => i ≤ 32) (fun i => 32 - i) ?_ 0 (Nat.zero_le _)
    intro i hi ih
    refine tw_iload C dX1_rank_20 rfl ?_
    refine tw_bipush C (nI 32) dX1_rank_22 (by decide) ?_
    refine tn_icmp_ge C 60 dX1_rank_24 (by decide) (by omega) (by omega)  (fun h => ?_) (fun h => ?_)
    · have he : i = 32 := by omega
      subst he
      refine tw_iload C dX1_rank_60 rfl ?_
      exact tw_iret C u dX1_rank_62 rfl rfl ⟨rfl, rfl⟩
    · have ih2 := ih (i + 1) (by omega) (by omega)
      have e1 : rkO u t k (i + 1) = rkO u t k i + if nI i < k ∧ bitO u t i = true then 1 else 0 := rfl
      rw [e1] at ih2
      refine tw_iload C dX1_rank_27 rfl ?_
      refine tw_iload_n C dX1_rank_29 rfl ?_
      refine tw_icmp_ge C 50 dX1_rank_30 (by decide)  (fun h2 => ?_) (fun h2 => ?_)
      · refine tw_iload C dX1_rank_50 rfl ?_
        refine tw_istore C dX1_rank_52 (by decide) rfl ?_
        refine tn_inc C dX1_rank_54 rfl (by decide) rfl ?_
        refine tw_goto C 20 dX1_rank_57 (by decide) ?_
        rw [if_neg (fun q => absurd q.1 (Int32.not_lt.mpr h2))] at ih2
        exact ih2
      · refine tw_aload_n C dX1_rank_33 rfl ?_
        refine tw_iload_n C dX1_rank_34 rfl ?_
        refine tw_iload C dX1_rank_35 rfl ?_
        refine tm_calli2 C (u_in u t (nI i) ht) rfl q229 q231 qs18 q232 (by decide +kernel) (by decide) (by decide) (Nat.le_of_ble_eq_true rfl) dX1_rank_37  (fun a v hv => ?_)
        obtain ⟨rfl, rfl⟩ := hv
        rw [inV_nI _ _ h]
        cases hb : bitO v t i with
        | false =>
          refine tw_if_eq C 50 dX1_rank_40 (by decide)  (fun h3 => ?_) (fun h3 => ?_)
          · refine tw_iload C dX1_rank_50 rfl ?_
            refine tw_istore C dX1_rank_52 (by decide) rfl ?_
            refine tn_inc C dX1_rank_54 rfl (by decide) rfl ?_
            refine tw_goto C 20 dX1_rank_57 (by decide) ?_
            rw [if_neg (fun q => absurd (hb.symm.trans q.2) (by decide))] at ih2
            exact ih2
          · exact absurd rfl h3
        | true =>
          refine tw_if_eq C 50 dX1_rank_40 (by decide)  (fun h3 => ?_) (fun h3 => ?_)
          · exact absurd h3 (by decide)
          · cases t with
            | none => exact absurd (show false = true from hb) (by decide)
            | some t =>
              refine tw_iload C dX1_rank_43 rfl ?_
              refine tw_iconst C (nI 1) dX1_rank_45 (by decide) ?_
              refine tw_iadd C dX1_rank_46 ?_
              refine tw_goto C 52 dX1_rank_47 (by decide) ?_
              refine tw_istore C dX1_rank_52 (by decide) rfl ?_
              refine tn_inc C dX1_rank_54 rfl (by decide) rfl ?_
              refine tw_goto C 20 dX1_rank_57 (by decide) ?_
              rw [if_pos ⟨Int32.not_le.mp h2, hb⟩] at ih2
              refine (show lsV (some t) (rkO v (some t) k i) + nI 1 = lsV (some t) (rkO v (some t) k i + 1) from nI_add _ _) ▸ ih2
  refine tw_istore_n C dX1_rank_5 (by decide) rfl ?_
  refine tw_iload_n C dX1_rank_6 rfl ?_
  cases ht0 : t with
  | none =>
    refine tw_if_ge C 14 dX1_rank_7 (by decide)  (fun h => ?_) (fun h => ?_)
    · exact absurd h (by decide)
    · refine tw_iconst C (-1) dX1_rank_10 (by decide) ?_
      refine tw_goto C 15 dX1_rank_11 (by decide) ?_
      subst ht0
      exact key _ rfl
  | some t0 =>
    have ht5 := ht t0 ht0
    refine tn_if_ge C 14 dX1_rank_7 (by decide) (by omega) ?_
    refine tw_iconst C (nI 0) dX1_rank_14 (by decide) ?_
    subst ht0
    exact key _ rfl
theorem u_count (y : MSt) (n : Int32) (hlo : mlo y < 2 ^ 31) : TMi l yX1_count cX1_count 2 (some .int) 2 D (tyT dB dI) [.ref (am 0), .int n] (wM am dI y) (wM am dI) (fun a u => a = lsV (tbO y n) (rkO y (tbO y n) (nI 32) 32) ∧ u = y) := by
  refine TMi.of (by decide) (Nat.le_of_ble_eq_true rfl) (fun p e s m below meth c A C => ?_)
  refine tw_aload_n C dX1_count_0 rfl ?_
  refine tw_iload_n C dX1_count_1 rfl ?_
  refine tw_bipush C (nI 32) dX1_count_2 (by decide) ?_
  refine tm_calli2 C (u_rank y n (nI 32) hlo) rfl q265 q266 q267 q268 (by decide +kernel) (by decide) (by decide) (Nat.le_of_ble_eq_true rfl) dX1_count_4  (fun a u hu => ?_)
  obtain ⟨rfl, rfl⟩ := hu
  exact tw_iret C u dX1_count_7 rfl rfl ⟨rfl, rfl⟩
theorem u_from (y : MSt) (n k : Int32) (hlo : mlo y < 2 ^ 31) : TMi l yX1_from cX1_from 5 (some .int) 1 D (tyT dB dI) [.ref (am 0), .int n, .int k] (wM am dI y) (wM am dI) (fun a u => ((a = -1 ∧ ∀ j, j < 32 → bitO y (tbO y n) j = true → nI j < k) ∨ ∃ i, i < 32 ∧ a = nI i ∧ bitO y (tbO y n) i = true ∧ ¬ nI i < k ∧ ∀ j, j < i → bitO y (tbO y n) j = true → nI j < k) ∧ u = y) := by
  refine TMi.of (by decide) (Nat.le_of_ble_eq_true rfl) (fun p e s m below meth c A C => ?_)
  refine tw_aload_n C dX1_from_0 rfl ?_
  refine tw_iload_n C dX1_from_1 rfl ?_
  refine tm_calli1 C (u_table y n hlo) rfl q245 q247 qs20 q248 (by decide +kernel) (by decide) (by decide) (Nat.le_of_ble_eq_true rfl) dX1_from_2  (fun a u hu => ?_)
  obtain ⟨rfl, rfl⟩ := hu
  have ht := tbO_ok (y := u) (n := n)
  generalize tbO u n = t at ht ⊢
  refine tw_istore_n C dX1_from_5 (by decide) rfl ?_
  refine tw_iconst C (nI 0) dX1_from_6 (by decide) ?_
  refine tw_istore C dX1_from_7 (by decide) rfl ?_
  refine tw_loop (fun _ => wM am dI u) (fun i => [(0, .ref (am 0)), (1, .int n), (2, .int k), (3, .int (oI t)), (4, .int (nI i))]) (fun i => i ≤ 32 ∧ ∀ j, j < i → bitO u t j = true → nI j < k) (fun i => 32 - i) ?_ 0 ⟨Nat.zero_le _, fun j h => absurd h (Nat.not_lt_zero _)⟩
  intro i hi ih
  obtain ⟨hi, hj⟩ := hi
  refine tw_iload C dX1_from_9 rfl ?_
  refine tw_bipush C (nI 32) dX1_from_11 (by decide) ?_
  refine tn_icmp_ge C 41 dX1_from_13 (by decide) (by omega) (by omega)  (fun h => ?_) (fun h => ?_)
  · have he : i = 32 := by omega
    subst he
    refine tw_iconst C (-1) dX1_from_41 (by decide) ?_
    exact tw_iret C u dX1_from_42 rfl rfl ⟨Or.inl ⟨rfl, hj⟩, rfl⟩
  · refine tw_iload C dX1_from_16 rfl ?_
    refine tw_iload_n C dX1_from_18 rfl ?_
    refine tw_icmp_lt C 35 dX1_from_19 (by decide)  (fun h2 => ?_) (fun h2 => ?_)
    · refine tn_inc C dX1_from_35 rfl (by decide) rfl ?_
      refine tw_goto C 9 dX1_from_38 (by decide) ?_
      exact ih (i + 1) ⟨by omega, lt_s hj (fun _ => h2)⟩ (by omega)
    · refine tw_aload_n C dX1_from_22 rfl ?_
      refine tw_iload_n C dX1_from_23 rfl ?_
      refine tw_iload C dX1_from_24 rfl ?_
      refine tm_calli2 C (u_in u t (nI i) ht) rfl q229 q231 qs18 q232 (by decide +kernel) (by decide) (by decide) (Nat.le_of_ble_eq_true rfl) dX1_from_26  (fun a v hv => ?_)
      obtain ⟨rfl, rfl⟩ := hv
      rw [inV_nI _ _ h]
      cases hb : bitO v t i with
      | false =>
        refine tw_if_eq C 35 dX1_from_29 (by decide)  (fun h3 => ?_) (fun h3 => ?_)
        · refine tn_inc C dX1_from_35 rfl (by decide) rfl ?_
          refine tw_goto C 9 dX1_from_38 (by decide) ?_
          exact ih (i + 1) ⟨by omega, lt_s hj (fun q => absurd (hb.symm.trans q) (by decide))⟩ (by omega)
        · exact absurd rfl h3
      | true =>
        refine tw_if_eq C 35 dX1_from_29 (by decide)  (fun h3 => ?_) (fun h3 => ?_)
        · exact absurd h3 (by decide)
        · refine tw_iload C dX1_from_32 rfl ?_
          exact tw_iret C v dX1_from_34 rfl rfl ⟨Or.inr ⟨i, h, rfl, hb, h2, hj⟩, rfl⟩
theorem u_upTo (y : MSt) (n k : Int32) (hlo : mlo y < 2 ^ 31) : TMi l yX1_upTo cX1_upTo 5 (some .int) 1 D (tyT dB dI) [.ref (am 0), .int n, .int k] (wM am dI y) (wM am dI) (fun a u => ((a = -1 ∧ ∀ j, j < 32 → bitO y (tbO y n) j = true → k < nI j) ∨ ∃ i, i < 32 ∧ a = nI i ∧ bitO y (tbO y n) i = true ∧ ¬ k < nI i ∧ ∀ j, i < j → j < 32 → bitO y (tbO y n) j = true → k < nI j) ∧ u = y) := by
  refine TMi.of (by decide) (Nat.le_of_ble_eq_true rfl) (fun p e s m below meth c A C => ?_)
  refine tw_aload_n C dX1_upTo_0 rfl ?_
  refine tw_iload_n C dX1_upTo_1 rfl ?_
  refine tm_calli1 C (u_table y n hlo) rfl q245 q247 qs20 q248 (by decide +kernel) (by decide) (by decide) (Nat.le_of_ble_eq_true rfl) dX1_upTo_2  (fun a u hu => ?_)
  obtain ⟨rfl, rfl⟩ := hu
  have ht := tbO_ok (y := u) (n := n)
  generalize tbO u n = t at ht ⊢
  refine tw_istore_n C dX1_upTo_5 (by decide) rfl ?_
  refine tw_bipush C (nI 31) dX1_upTo_6 (by decide) ?_
  refine tw_istore C dX1_upTo_8 (by decide) rfl ?_
  refine tw_loop (fun _ => wM am dI u) (fun i => [(0, .ref (am 0)), (1, .int n), (2, .int k), (3, .int (oI t)), (4, .int (nI i - 1))]) (fun i => i ≤ 32 ∧ ∀ j, i ≤ j → j < 32 → bitO u t j = true → k < nI j) (fun i => i) ?_ 32 ⟨Nat.le_refl _, fun j h1 h2 => absurd h1 (by omega)⟩
  intro i hi ih
  obtain ⟨hi, hj⟩ := hi
  cases i with
  | zero =>
    refine tw_iload C dX1_upTo_10 rfl ?_
    refine tw_if_lt C 40 dX1_upTo_12 (by decide)  (fun h => ?_) (fun h => ?_)
    · refine tw_iconst C (-1) dX1_upTo_40 (by decide) ?_
      exact tw_iret C u dX1_upTo_41 rfl rfl ⟨Or.inl ⟨rfl, fun j h => hj j (Nat.zero_le _) h⟩, rfl⟩
    · exact absurd (by decide) h
  | succ i =>
    rw [nI_pred]
    have ih2 := ih i
    refine tw_iload C dX1_upTo_10 rfl ?_
    refine tn_if_lt C 40 dX1_upTo_12 (by decide) (by omega) ?_
    refine tw_iload C dX1_upTo_15 rfl ?_
    refine tw_iload_n C dX1_upTo_17 rfl ?_
    refine tw_icmp_gt C 34 dX1_upTo_18 (by decide)  (fun h2 => ?_) (fun h2 => ?_)
    · refine tw_iinc C (nI i - 1) (k := 4) dX1_upTo_34 rfl (Int32.sub_eq_add_neg (a := nI i) (b := 1)).symm (by decide) rfl ?_
      refine tw_goto C 10 dX1_upTo_37 (by decide) ?_
      exact ih2 ⟨by omega, fun j h1 h3 h4 => by
        rcases Nat.lt_or_ge i j with q | q
        · exact hj j q h3 h4
        · rw [show j = i by omega]; exact h2⟩ (by omega)
    · refine tw_aload_n C dX1_upTo_21 rfl ?_
      refine tw_iload_n C dX1_upTo_22 rfl ?_
      refine tw_iload C dX1_upTo_23 rfl ?_
      refine tm_calli2 C (u_in u t (nI i) ht) rfl q229 q231 qs18 q232 (by decide +kernel) (by decide) (by decide) (Nat.le_of_ble_eq_true rfl) dX1_upTo_25  (fun a v hv => ?_)
      obtain ⟨rfl, rfl⟩ := hv
      rw [inV_nI _ _ (by omega)]
      cases hb : bitO v t i with
      | false =>
        refine tw_if_eq C 34 dX1_upTo_28 (by decide)  (fun h3 => ?_) (fun h3 => ?_)
        · refine tw_iinc C (nI i - 1) (k := 4) dX1_upTo_34 rfl (Int32.sub_eq_add_neg (a := nI i) (b := 1)).symm (by decide) rfl ?_
          refine tw_goto C 10 dX1_upTo_37 (by decide) ?_
          exact ih2 ⟨by omega, fun j h1 h3 h4 => by
            rcases Nat.lt_or_ge i j with q | q
            · exact hj j q h3 h4
            · rw [show j = i by omega, hb] at h4; cases h4⟩ (by omega)
        · exact absurd rfl h3
      | true =>
        refine tw_if_eq C 34 dX1_upTo_28 (by decide)  (fun h3 => ?_) (fun h3 => ?_)
        · exact absurd h3 (by decide)
        · refine tw_iload C dX1_upTo_31 rfl ?_
          exact tw_iret C v dX1_upTo_33 rfl rfl ⟨Or.inr ⟨i, by omega, rfl, hb, h2, fun j h => hj j h⟩, rfl⟩
theorem u_keyAt (y : MSt) (n k : Int32) (hlo : mlo y < 2 ^ 31) : TMi l yX1_keyAt cX1_keyAt 5 (some .int) 2 D (tyT dB dI) [.ref (am 0), .int n, .int k] (wM am dI y) (wM am dI) (fun a u => ((a = -1 ∧ ∀ j, j < 32 → bitO y (tbO y n) j = true → lsV (tbO y n) (rkO y (tbO y n) (nI j) 32) ≠ k) ∨ ∃ i, i < 32 ∧ a = nI i ∧ bitO y (tbO y n) i = true ∧ lsV (tbO y n) (rkO y (tbO y n) (nI i) 32) = k) ∧ u = y) := by
  refine TMi.of (by decide) (Nat.le_of_ble_eq_true rfl) (fun p e s m below meth c A C => ?_)
  refine tw_aload_n C dX1_keyAt_0 rfl ?_
  refine tw_iload_n C dX1_keyAt_1 rfl ?_
  refine tm_calli1 C (u_table y n hlo) rfl q245 q247 qs20 q248 (by decide +kernel) (by decide) (by decide) (Nat.le_of_ble_eq_true rfl) dX1_keyAt_2  (fun a u hu => ?_)
  obtain ⟨rfl, rfl⟩ := hu
  have ht := tbO_ok (y := u) (n := n)
  refine tw_istore_n C dX1_keyAt_5 (by decide) rfl ?_
  refine tw_iconst C (nI 0) dX1_keyAt_6 (by decide) ?_
  refine tw_istore C dX1_keyAt_7 (by decide) rfl ?_
  refine tw_loop (fun _ => wM am dI u) (fun i => [(0, .ref (am 0)), (1, .int n), (2, .int k), (3, .int (oI (tbO u n))), (4, .int (nI i))]) (fun i => i ≤ 32 ∧ ∀ j, j < i → bitO u (tbO u n) j = true → lsV (tbO u n) (rkO u (tbO u n) (nI j) 32) ≠ k) (fun i => 32 - i) ?_ 0 ⟨Nat.zero_le _, fun j h => absurd h (Nat.not_lt_zero _)⟩
  intro i hi ih
  obtain ⟨hi, hj⟩ := hi
  refine tw_iload C dX1_keyAt_9 rfl ?_
  refine tw_bipush C (nI 32) dX1_keyAt_11 (by decide) ?_
  refine tn_icmp_ge C 46 dX1_keyAt_13 (by decide) (by omega) (by omega)  (fun h => ?_) (fun h => ?_)
  · have he : i = 32 := by omega
    subst he
    refine tw_iconst C (-1) dX1_keyAt_46 (by decide) ?_
    exact tw_iret C u dX1_keyAt_47 rfl rfl ⟨Or.inl ⟨rfl, hj⟩, rfl⟩
  · refine tw_aload_n C dX1_keyAt_16 rfl ?_
    refine tw_iload_n C dX1_keyAt_17 rfl ?_
    refine tw_iload C dX1_keyAt_18 rfl ?_
    refine tm_calli2 C (u_in u (tbO u n) (nI i) ht) rfl q229 q231 qs18 q232 (by decide +kernel) (by decide) (by decide) (Nat.le_of_ble_eq_true rfl) dX1_keyAt_20  (fun a v hv => ?_)
    obtain ⟨rfl, rfl⟩ := hv
    rw [inV_nI _ _ h]
    cases hb : bitO v (tbO v n) i with
    | false =>
      refine tw_if_eq C 40 dX1_keyAt_23 (by decide)  (fun h3 => ?_) (fun h3 => ?_)
      · refine tn_inc C dX1_keyAt_40 rfl (by decide) rfl ?_
        refine tw_goto C 9 dX1_keyAt_43 (by decide) ?_
        exact ih (i + 1) ⟨by omega, lt_s hj (fun q => absurd (hb.symm.trans q) (by decide))⟩ (by omega)
      · exact absurd rfl h3
    | true =>
      refine tw_if_eq C 40 dX1_keyAt_23 (by decide)  (fun h3 => ?_) (fun h3 => ?_)
      · exact absurd h3 (by decide)
      · refine tw_aload_n C dX1_keyAt_26 rfl ?_
        refine tw_iload_n C dX1_keyAt_27 rfl ?_
        refine tw_iload C dX1_keyAt_28 rfl ?_
        refine tm_calli2 C (u_rank v n (nI i) hlo) rfl q265 q266 q267 q268 (by decide +kernel) (by decide) (by decide) (Nat.le_of_ble_eq_true rfl) dX1_keyAt_30  (fun a w hw => ?_)
        obtain ⟨rfl, rfl⟩ := hw
        refine tw_iload_n C dX1_keyAt_33 rfl ?_
        refine tw_icmp_ne C 40 dX1_keyAt_34 (by decide)  (fun h4 => ?_) (fun h4 => ?_)
        · refine tn_inc C dX1_keyAt_40 rfl (by decide) rfl ?_
          refine tw_goto C 9 dX1_keyAt_43 (by decide) ?_
          exact ih (i + 1) ⟨by omega, lt_s hj (fun _ => h4)⟩ (by omega)
        · refine tw_iload C dX1_keyAt_37 rfl ?_
          exact tw_iret C w dX1_keyAt_39 rfl rfl ⟨Or.inr ⟨i, h, rfl, hb, h4⟩, rfl⟩
theorem u_sum (y : MSt) (n a b : Int32) (hlo : mlo y < 2 ^ 31) : TMi l yX1_sum cX1_sum 7 (some .int) 1 D (tyT dB dI) [.ref (am 0), .int n, .int a, .int b] (wM am dI y) (wM am dI) (fun v u => v = smM y (tbO y n) a b 32 ∧ u = y) := by
  refine TMi.of (by decide) (Nat.le_of_ble_eq_true rfl) (fun p e s m below meth c A C => ?_)
  refine tw_aload_n C dX1_sum_0 rfl ?_
  refine tw_iload_n C dX1_sum_1 rfl ?_
  refine tm_calli1 C (u_table y n hlo) rfl q245 q247 qs20 q248 (by decide +kernel) (by decide) (by decide) (Nat.le_of_ble_eq_true rfl) dX1_sum_2  (fun v u hu => ?_)
  obtain ⟨rfl, rfl⟩ := hu
  have ht := tbO_ok (y := u) (n := n)
  generalize tbO u n = t at ht ⊢
  refine tw_istore C dX1_sum_5 (by decide) rfl ?_
  refine tw_iconst C (nI 0) dX1_sum_7 (by decide) ?_
  refine tw_istore C dX1_sum_8 (by decide) rfl ?_
  refine tw_iconst C (nI 0) dX1_sum_10 (by decide) ?_
  refine tw_istore C dX1_sum_11 (by decide) rfl ?_
  refine tw_loop (fun _ => wM am dI u) (fun i => [(0, .ref (am 0)), (1, .int n), (2, .int a), (3, .int b), (4, .int (oI t)), (5, .int (smM u t a b i)), (6, .int (nI i))]) (fun i => i ≤ 32) (fun i => 32 - i) ?_ 0 (Nat.zero_le _)
  intro i hi ih
  refine tw_iload C dX1_sum_13 rfl ?_
  refine tw_bipush C (nI 32) dX1_sum_15 (by decide) ?_
  refine tn_icmp_ge C 72 dX1_sum_17 (by decide) (by omega) (by omega)  (fun h => ?_) (fun h => ?_)
  · have he : i = 32 := by omega
    subst he
    refine tw_iload C dX1_sum_72 rfl ?_
    exact tw_iret C u dX1_sum_74 rfl rfl ⟨rfl, rfl⟩
  · have ih2 := ih (i + 1) (by omega) (by omega)
    have e1 : smM u t a b (i + 1) = if ¬ nI i < a ∧ ¬ b < nI i ∧ bitO u t i = true then smM u t a b i + mvs u (32 * t.getD 0 + i) else smM u t a b i := rfl
    rw [e1] at ih2
    refine tw_iload C dX1_sum_20 rfl ?_
    refine tw_iload_n C dX1_sum_22 rfl ?_
    refine tw_icmp_lt C 62 dX1_sum_23 (by decide)  (fun h2 => ?_) (fun h2 => ?_)
    · refine tw_iload C dX1_sum_62 rfl ?_
      refine tw_istore C dX1_sum_64 (by decide) rfl ?_
      refine tn_inc C dX1_sum_66 rfl (by decide) rfl ?_
      refine tw_goto C 13 dX1_sum_69 (by decide) ?_
      rw [if_neg (fun q => q.1 h2)] at ih2
      exact ih2
    · refine tw_iload C dX1_sum_26 rfl ?_
      refine tw_iload_n C dX1_sum_28 rfl ?_
      refine tw_icmp_gt C 62 dX1_sum_29 (by decide)  (fun h3 => ?_) (fun h3 => ?_)
      · refine tw_iload C dX1_sum_62 rfl ?_
        refine tw_istore C dX1_sum_64 (by decide) rfl ?_
        refine tn_inc C dX1_sum_66 rfl (by decide) rfl ?_
        refine tw_goto C 13 dX1_sum_69 (by decide) ?_
        rw [if_neg (fun q => q.2.1 h3)] at ih2
        exact ih2
      · refine tw_aload_n C dX1_sum_32 rfl ?_
        refine tw_iload C dX1_sum_33 rfl ?_
        refine tw_iload C dX1_sum_35 rfl ?_
        refine tm_calli2 C (u_in u t (nI i) ht) rfl q229 q231 qs18 q232 (by decide +kernel) (by decide) (by decide) (Nat.le_of_ble_eq_true rfl) dX1_sum_37  (fun v w hw => ?_)
        obtain ⟨rfl, rfl⟩ := hw
        rw [inV_nI _ _ h]
        cases hb : bitO w t i with
        | false =>
          refine tw_if_eq C 62 dX1_sum_40 (by decide)  (fun h4 => ?_) (fun h4 => ?_)
          · refine tw_iload C dX1_sum_62 rfl ?_
            refine tw_istore C dX1_sum_64 (by decide) rfl ?_
            refine tn_inc C dX1_sum_66 rfl (by decide) rfl ?_
            refine tw_goto C 13 dX1_sum_69 (by decide) ?_
            rw [if_neg (fun q => absurd (hb.symm.trans q.2.2) (by decide))] at ih2
            exact ih2
          · exact absurd rfl h4
        | true =>
          refine tw_if_eq C 62 dX1_sum_40 (by decide)  (fun h4 => ?_) (fun h4 => ?_)
          · exact absurd h4 (by decide)
          · cases t with
            | none => exact absurd (show false = true from hb) (by decide)
            | some t =>
              have ht5 := ht t rfl
              refine tw_iload C dX1_sum_43 rfl ?_
              refine tw_aload_n C dX1_sum_45 rfl ?_
              refine tm_get_vs C dX1_sum_46 ?_
              refine tw_bipush C (nI 32) dX1_sum_49 (by decide) ?_
              refine tw_iload C dX1_sum_51 rfl ?_
              refine tn_imul C (y := t) dX1_sum_53 ?_
              refine tw_iload C dX1_sum_54 rfl ?_
              refine tn_iadd C dX1_sum_56 ?_
              refine tm_ld_vs C (mvs w (32 * t + i)) dX1_sum_57 (by omega) rfl ?_
              refine tw_iadd C dX1_sum_58 ?_
              refine tw_goto C 64 dX1_sum_59 (by decide) ?_
              refine tw_istore C dX1_sum_64 (by decide) rfl ?_
              refine tn_inc C dX1_sum_66 rfl (by decide) rfl ?_
              refine tw_goto C 13 dX1_sum_69 (by decide) ?_
              rw [if_pos ⟨h2, h3, hb⟩] at ih2
              exact ih2
theorem u_keys (y : MSt) (n : Int32) (hlo : mlo y < 2 ^ 31) : TMi l yX1_keys cX1_keys 3 (some .int) 1 D (tyT dB dI) [.ref (am 0), .int n] (wM am dI y) (wM am dI) (fun a u => a = (tbO y n).elim 0 (fun t => mks y t) ∧ u = y) := by
  refine TMi.of (by decide) (Nat.le_of_ble_eq_true rfl) (fun p e s m below meth c A C => ?_)
  refine tw_aload_n C dX1_keys_0 rfl ?_
  refine tw_iload_n C dX1_keys_1 rfl ?_
  refine tm_calli1 C (u_table y n hlo) rfl q245 q247 qs20 q248 (by decide +kernel) (by decide) (by decide) (Nat.le_of_ble_eq_true rfl) dX1_keys_2  (fun a u hu => ?_)
  obtain ⟨rfl, rfl⟩ := hu
  have ht := tbO_ok (y := u) (n := n)
  generalize tbO u n = t at ht ⊢
  refine tw_istore_n C dX1_keys_5 (by decide) rfl ?_
  refine tw_iload_n C dX1_keys_6 rfl ?_
  cases t with
  | none =>
    refine tw_if_ge C 14 dX1_keys_7 (by decide)  (fun h => ?_) (fun h => ?_)
    · exact absurd h (by decide)
    · refine tw_iconst C (nI 0) dX1_keys_10 (by decide) ?_
      refine tw_goto C 20 dX1_keys_11 (by decide) ?_
      exact tw_iret C u dX1_keys_20 rfl rfl ⟨rfl, rfl⟩
  | some t =>
    have ht5 := ht t rfl
    refine tn_if_ge C 14 dX1_keys_7 (by decide) (by omega) ?_
    refine tw_aload_n C dX1_keys_14 rfl ?_
    refine tm_get_ks C dX1_keys_15 ?_
    refine tw_iload_n C dX1_keys_18 rfl ?_
    refine tm_ld_ks C (mks u t) (i := t) dX1_keys_19 (by omega) rfl ?_
    exact tw_iret C u dX1_keys_20 rfl rfl ⟨rfl, rfl⟩
theorem u_difference (y : MSt) (n k : Int32) (hlo : mlo y < 2 ^ 31) : TMi l yX1_difference cX1_difference 8 (some .int) 1 D (tyT dB dI) [.ref (am 0), .int n, .int k] (wM am dI y) (wM am dI) (fun a u => a = (tbO y n).elim 0 (fun t => (tbO y k).elim 0 (fun q => dfM y t q 32)) ∧ u = y) := by
  refine TMi.of (by decide) (Nat.le_of_ble_eq_true rfl) (fun p e s m below meth c A C => ?_)
  refine tw_aload_n C dX1_difference_0 rfl ?_
  refine tw_iload_n C dX1_difference_1 rfl ?_
  refine tm_calli1 C (u_table y n hlo) rfl q245 q247 qs20 q248 (by decide +kernel) (by decide) (by decide) (Nat.le_of_ble_eq_true rfl) dX1_difference_2  (fun a u hu => ?_)
  obtain ⟨rfl, rfl⟩ := hu
  refine tw_istore_n C dX1_difference_5 (by decide) rfl ?_
  refine tw_aload_n C dX1_difference_6 rfl ?_
  refine tw_iload_n C dX1_difference_7 rfl ?_
  refine tm_calli1 C (u_table u k hlo) rfl q245 q247 qs20 q248 (by decide +kernel) (by decide) (by decide) (Nat.le_of_ble_eq_true rfl) dX1_difference_8  (fun a v hv => ?_)
  obtain ⟨rfl, rfl⟩ := hv
  have ht := tbO_ok (y := v) (n := n)
  have hq := tbO_ok (y := v) (n := k)
  generalize tbO v n = t at ht ⊢
  generalize tbO v k = q at hq ⊢
  refine tw_istore C dX1_difference_11 (by decide) rfl ?_
  refine tw_iconst C (nI 0) dX1_difference_13 (by decide) ?_
  refine tw_istore C dX1_difference_14 (by decide) rfl ?_
  refine tw_iconst C (nI 0) dX1_difference_16 (by decide) ?_
  refine tw_istore C dX1_difference_17 (by decide) rfl ?_
  cases t with
  | none =>
    refine tw_iload C dX1_difference_19 rfl ?_
    refine tw_bipush C (nI 32) dX1_difference_21 (by decide) ?_
    refine tn_icmp_ge C 123 dX1_difference_23 (by decide) (by omega) (by omega) (fun h => ?_) (fun h => ?_)
    · omega
    refine tw_iload_n C dX1_difference_26 rfl ?_
    refine tw_if_lt C 123 dX1_difference_27 (by decide)  (fun h => ?_) (fun h => ?_)
    · refine tw_iload C dX1_difference_123 rfl ?_
      exact tw_iret C v dX1_difference_125 rfl rfl ⟨rfl, rfl⟩
    · exact absurd (by decide) h
  | some t =>
    cases q with
    | none =>
      have ht5 := ht t rfl
      refine tw_iload C dX1_difference_19 rfl ?_
      refine tw_bipush C (nI 32) dX1_difference_21 (by decide) ?_
      refine tn_icmp_ge C 123 dX1_difference_23 (by decide) (by omega) (by omega) (fun h => ?_) (fun h => ?_)
      · omega
      refine tw_iload_n C dX1_difference_26 rfl ?_
      refine tn_if_lt C 123 dX1_difference_27 (by decide) (show t < 2 ^ 31 by omega) ?_
      refine tw_iload C dX1_difference_30 rfl ?_
      refine tw_if_lt C 123 dX1_difference_32 (by decide)  (fun h => ?_) (fun h => ?_)
      · refine tw_iload C dX1_difference_123 rfl ?_
        exact tw_iret C v dX1_difference_125 rfl rfl ⟨rfl, rfl⟩
      · exact absurd (by decide) h
    | some q =>
      have ht5 := ht t rfl
      have hq5 := hq q rfl
      refine tw_loop (fun _ => wM am dI v) (fun i => [(0, .ref (am 0)), (1, .int n), (2, .int k), (3, .int (nI t)), (4, .int (nI q)), (5, .int (dfM v t q i)), (6, .int (nI i))]) (fun i => i ≤ 32) (fun i => 32 - i) ?_ 0 (Nat.zero_le _)
      intro i hi ih
      refine tw_iload C dX1_difference_19 rfl ?_
      refine tw_bipush C (nI 32) dX1_difference_21 (by decide) ?_
      refine tn_icmp_ge C 123 dX1_difference_23 (by decide) (by omega) (by omega)  (fun h => ?_) (fun h => ?_)
      · have he : i = 32 := by omega
        subst he
        refine tw_iload C dX1_difference_123 rfl ?_
        exact tw_iret C v dX1_difference_125 rfl rfl ⟨rfl, rfl⟩
      · have ih2 := ih (i + 1) (by omega) (by omega)
        have e1 : dfM v t q (i + 1) = if smeM v t q i = true then dfM v t q i else dfM v t q i ||| (nI 1 <<< (nI i &&& 31)) := rfl
        have e2 : smeM v t q i = (decide (bitO v (some t) i = bitO v (some q) i) && (!(bitO v (some t) i) || decide (mvs v (32 * t + i) = mvs v (32 * q + i)))) := rfl
        rw [e1, e2] at ih2
        refine tw_iload_n C dX1_difference_26 rfl ?_
        refine tn_if_lt C 123 dX1_difference_27 (by decide) (show t < 2 ^ 31 by omega) ?_
        refine tw_iload C dX1_difference_30 rfl ?_
        refine tn_if_lt C 123 dX1_difference_32 (by decide) (show q < 2 ^ 31 by omega) ?_
        refine tw_aload_n C dX1_difference_35 rfl ?_
        refine tw_iload_n C dX1_difference_36 rfl ?_
        refine tw_iload C dX1_difference_37 rfl ?_
        refine tm_calli2 C (u_in v (some t) (nI i) ht) rfl q229 q231 qs18 q232 (by decide +kernel) (by decide) (by decide) (Nat.le_of_ble_eq_true rfl) dX1_difference_39  (fun a w hw => ?_)
        obtain ⟨rfl, rfl⟩ := hw
        rw [inV_nI _ _ h]
        refine tw_aload_n C dX1_difference_42 rfl ?_
        refine tw_iload C dX1_difference_43 rfl ?_
        refine tw_iload C dX1_difference_45 rfl ?_
        refine tm_calli2 C (u_in w (some q) (nI i) hq) rfl q229 q231 qs18 q232 (by decide +kernel) (by decide) (by decide) (Nat.le_of_ble_eq_true rfl) dX1_difference_47  (fun a z hz => ?_)
        obtain ⟨rfl, rfl⟩ := hz
        rw [inV_nI _ _ h]
        cases hb1 : bitO z (some t) i with
        | false =>
          rw [hb1] at ih2
          cases hb2 : bitO z (some q) i with
          | false =>
            rw [hb2] at ih2
            refine tw_icmp_ne C 95 dX1_difference_50 (by decide)  (fun h4 => ?_) (fun h4 => ?_)
            · exact absurd rfl h4
            refine tw_aload_n C dX1_difference_53 rfl ?_
            refine tw_iload_n C dX1_difference_54 rfl ?_
            refine tw_iload C dX1_difference_55 rfl ?_
            refine tm_calli2 C (u_in z (some t) (nI i) ht) rfl q229 q231 qs18 q232 (by decide +kernel) (by decide) (by decide) (Nat.le_of_ble_eq_true rfl) dX1_difference_57  (fun a z2 hz2 => ?_)
            obtain ⟨rfl, rfl⟩ := hz2
            rw [inV_nI _ _ h, hb1]
            refine tw_if_eq C 91 dX1_difference_60 (by decide)  (fun h5 => ?_) (fun h5 => ?_)
            · refine tw_iconst C (nI 1) dX1_difference_91 (by decide) ?_
              refine tw_goto C 96 dX1_difference_92 (by decide) ?_
              refine tw_istore C dX1_difference_96 (by decide) rfl ?_
              refine tw_iload C dX1_difference_98 rfl ?_
              refine tn_if_eq C 108 dX1_difference_100 (by decide) (by omega)  (fun h6 => ?_) (fun h6 => ?_)
              · exact absurd h6 (by decide)
              · refine tw_iload C dX1_difference_103 rfl ?_
                refine tw_goto C 115 dX1_difference_105 (by decide) ?_
                refine tw_istore C dX1_difference_115 (by decide) rfl ?_
                refine tn_inc C dX1_difference_117 rfl (by decide) rfl ?_
                refine tw_goto C 19 dX1_difference_120 (by decide) ?_
                exact tw_pick [0, 1, 2, 3, 4, 5, 6] rfl ih2
            · exact absurd rfl h5
          | true =>
            rw [hb2] at ih2
            refine tw_icmp_ne C 95 dX1_difference_50 (by decide)  (fun h4 => ?_) (fun h4 => ?_)
            · refine tw_iconst C (nI 0) dX1_difference_95 (by decide) ?_
              refine tw_istore C dX1_difference_96 (by decide) rfl ?_
              refine tw_iload C dX1_difference_98 rfl ?_
              refine tn_if_eq C 108 dX1_difference_100 (by decide) (by omega)  (fun h6 => ?_) (fun h6 => ?_)
              · refine tw_iload C dX1_difference_108 rfl ?_
                refine tw_iconst C (nI 1) dX1_difference_110 (by decide) ?_
                refine tw_iload C dX1_difference_111 rfl ?_
                refine tw_ishl C dX1_difference_113 ?_
                refine tw_ior C dX1_difference_114 ?_
                refine tw_istore C dX1_difference_115 (by decide) rfl ?_
                refine tn_inc C dX1_difference_117 rfl (by decide) rfl ?_
                refine tw_goto C 19 dX1_difference_120 (by decide) ?_
                exact tw_pick [0, 1, 2, 3, 4, 5, 6] rfl ih2
              · exact absurd rfl h6
            · exact absurd h4 (by decide)
        | true =>
          rw [hb1] at ih2
          cases hb2 : bitO z (some q) i with
          | false =>
            rw [hb2] at ih2
            refine tw_icmp_ne C 95 dX1_difference_50 (by decide)  (fun h4 => ?_) (fun h4 => ?_)
            · refine tw_iconst C (nI 0) dX1_difference_95 (by decide) ?_
              refine tw_istore C dX1_difference_96 (by decide) rfl ?_
              refine tw_iload C dX1_difference_98 rfl ?_
              refine tn_if_eq C 108 dX1_difference_100 (by decide) (by omega)  (fun h6 => ?_) (fun h6 => ?_)
              · refine tw_iload C dX1_difference_108 rfl ?_
                refine tw_iconst C (nI 1) dX1_difference_110 (by decide) ?_
                refine tw_iload C dX1_difference_111 rfl ?_
                refine tw_ishl C dX1_difference_113 ?_
                refine tw_ior C dX1_difference_114 ?_
                refine tw_istore C dX1_difference_115 (by decide) rfl ?_
                refine tn_inc C dX1_difference_117 rfl (by decide) rfl ?_
                refine tw_goto C 19 dX1_difference_120 (by decide) ?_
                exact tw_pick [0, 1, 2, 3, 4, 5, 6] rfl ih2
              · exact absurd rfl h6
            · exact absurd h4 (by decide)
          | true =>
            rw [hb2] at ih2
            refine tw_icmp_ne C 95 dX1_difference_50 (by decide)  (fun h4 => ?_) (fun h4 => ?_)
            · exact absurd rfl h4
            refine tw_aload_n C dX1_difference_53 rfl ?_
            refine tw_iload_n C dX1_difference_54 rfl ?_
            refine tw_iload C dX1_difference_55 rfl ?_
            refine tm_calli2 C (u_in z (some t) (nI i) ht) rfl q229 q231 qs18 q232 (by decide +kernel) (by decide) (by decide) (Nat.le_of_ble_eq_true rfl) dX1_difference_57  (fun a z2 hz2 => ?_)
            obtain ⟨rfl, rfl⟩ := hz2
            rw [inV_nI _ _ h, hb1]
            refine tw_if_eq C 91 dX1_difference_60 (by decide)  (fun h5 => ?_) (fun h5 => ?_)
            · exact absurd h5 (by decide)
            · refine tw_aload_n C dX1_difference_63 rfl ?_
              refine tm_get_vs C dX1_difference_64 ?_
              refine tw_bipush C (nI 32) dX1_difference_67 (by decide) ?_
              refine tw_iload_n C dX1_difference_69 rfl ?_
              refine tn_imul C (y := t) dX1_difference_70 ?_
              refine tw_iload C dX1_difference_71 rfl ?_
              refine tn_iadd C dX1_difference_73 ?_
              refine tm_ld_vs C _ dX1_difference_74 (by omega) rfl ?_
              refine tw_aload_n C dX1_difference_75 rfl ?_
              refine tm_get_vs C dX1_difference_76 ?_
              refine tw_bipush C (nI 32) dX1_difference_79 (by decide) ?_
              refine tw_iload C dX1_difference_81 rfl ?_
              refine tn_imul C (y := q) dX1_difference_83 ?_
              refine tw_iload C dX1_difference_84 rfl ?_
              refine tn_iadd C dX1_difference_86 ?_
              refine tm_ld_vs C _ dX1_difference_87 (by omega) rfl ?_
              refine tw_icmp_ne C 95 dX1_difference_88 (by decide)  (fun h6 => ?_) (fun h6 => ?_)
              · rw [decide_eq_false h6] at ih2
                refine tw_iconst C (nI 0) dX1_difference_95 (by decide) ?_
                refine tw_istore C dX1_difference_96 (by decide) rfl ?_
                refine tw_iload C dX1_difference_98 rfl ?_
                refine tn_if_eq C 108 dX1_difference_100 (by decide) (by omega)  (fun h7 => ?_) (fun h7 => ?_)
                · refine tw_iload C dX1_difference_108 rfl ?_
                  refine tw_iconst C (nI 1) dX1_difference_110 (by decide) ?_
                  refine tw_iload C dX1_difference_111 rfl ?_
                  refine tw_ishl C dX1_difference_113 ?_
                  refine tw_ior C dX1_difference_114 ?_
                  refine tw_istore C dX1_difference_115 (by decide) rfl ?_
                  refine tn_inc C dX1_difference_117 rfl (by decide) rfl ?_
                  refine tw_goto C 19 dX1_difference_120 (by decide) ?_
                  exact tw_pick [0, 1, 2, 3, 4, 5, 6] rfl ih2
                · exact absurd rfl h7
              · rw [decide_eq_true h6] at ih2
                refine tw_iconst C (nI 1) dX1_difference_91 (by decide) ?_
                refine tw_goto C 96 dX1_difference_92 (by decide) ?_
                refine tw_istore C dX1_difference_96 (by decide) rfl ?_
                refine tw_iload C dX1_difference_98 rfl ?_
                refine tn_if_eq C 108 dX1_difference_100 (by decide) (by omega)  (fun h7 => ?_) (fun h7 => ?_)
                · exact absurd h7 (by decide)
                · refine tw_iload C dX1_difference_103 rfl ?_
                  refine tw_goto C 115 dX1_difference_105 (by decide) ?_
                  refine tw_istore C dX1_difference_115 (by decide) rfl ?_
                  refine tn_inc C dX1_difference_117 rfl (by decide) rfl ?_
                  refine tw_goto C 19 dX1_difference_120 (by decide) ?_
                  exact tw_pick [0, 1, 2, 3, 4, 5, 6] rfl ih2
end WALK7
end
section
/-! sums of eight, counts, what is always free -/
def sm8 (f : Nat → Nat) : Nat := f 0 + f 1 + f 2 + f 3 + f 4 + f 5 + f 6 + f 7
theorem lt8 {P : Nat → Prop} (h0 : P 0) (h1 : P 1) (h2 : P 2) (h3 : P 3) (h4 : P 4) (h5 : P 5) (h6 : P 6) (h7 : P 7) {r : Nat} (h : r < 8) : P r := by
  rcases (show r = 0 ∨ r = 1 ∨ r = 2 ∨ r = 3 ∨ r = 4 ∨ r = 5 ∨ r = 6 ∨ r = 7 by omega) with e | e | e | e | e | e | e | e <;> (rw [e]; assumption)
theorem sm8_swap {f g : Nat → Nat} {w : Nat} (hw : w < 8) (h : ∀ r, r < 8 → r ≠ w → f r = g r) : sm8 f + g w = sm8 g + f w := by
  have k : ∀ r, r < 8 → r ≠ w → f r = g r := h
  unfold sm8
  have a0 := k 0 (by decide)
  have a1 := k 1 (by decide)
  have a2 := k 2 (by decide)
  have a3 := k 3 (by decide)
  have a4 := k 4 (by decide)
  have a5 := k 5 (by decide)
  have a6 := k 6 (by decide)
  have a7 := k 7 (by decide)
  rcases (show w = 0 ∨ w = 1 ∨ w = 2 ∨ w = 3 ∨ w = 4 ∨ w = 5 ∨ w = 6 ∨ w = 7 by omega) with e | e | e | e | e | e | e | e <;> (subst e; omega)
theorem sm8_congr {f g : Nat → Nat} (h : ∀ r, r < 8 → f r = g r) : sm8 f = sm8 g := by
  unfold sm8
  rw [h 0 (by decide), h 1 (by decide), h 2 (by decide), h 3 (by decide), h 4 (by decide), h 5 (by decide), h 6 (by decide), h 7 (by decide)]
theorem sm8_le {f g : Nat → Nat} (h : ∀ r, r < 8 → f r ≤ g r) : sm8 f ≤ sm8 g := by
  unfold sm8
  have a0 := h 0 (by decide)
  have a1 := h 1 (by decide)
  have a2 := h 2 (by decide)
  have a3 := h 3 (by decide)
  have a4 := h 4 (by decide)
  have a5 := h 5 (by decide)
  have a6 := h 6 (by decide)
  have a7 := h 7 (by decide)
  omega
theorem sm8_one {f : Nat → Nat} {r : Nat} (h : r < 8) : f r ≤ sm8 f := by
  unfold sm8
  rcases (show r = 0 ∨ r = 1 ∨ r = 2 ∨ r = 3 ∨ r = 4 ∨ r = 5 ∨ r = 6 ∨ r = 7 by omega) with e | e | e | e | e | e | e | e <;> (subst e; omega)
theorem sm8_two {f : Nat → Nat} {r q : Nat} (h : r < 8) (hq : q < 8) (hne : r ≠ q) : f r + f q ≤ sm8 f := by
  obtain ⟨g, hg⟩ : ∃ g : Nat → Nat, ∀ j, g j = if j = r then 0 else f j := ⟨_, fun _ => rfl⟩
  have h1 := sm8_swap (f := f) (g := g) h (fun j _ hj => by rw [hg, if_neg hj])
  have h2 := sm8_one (f := g) hq
  rw [hg q, if_neg (fun e => hne e.symm)] at h2
  rw [hg r, if_pos rfl] at h1
  omega
theorem sm8_add (f g : Nat → Nat) : sm8 (fun r => f r + g r) = sm8 f + sm8 g := by simp only [sm8]; omega
theorem sm8_mul' (f : Nat → Nat) : sm8 (fun r => 17 * f r) = 17 * sm8 f := by simp only [sm8]; omega
theorem sm8_hit {w : Nat} (h : w < 8) : sm8 (fun r => if w = r then 1 else 0) = 1 := by
  unfold sm8
  rcases (show w = 0 ∨ w = 1 ∨ w = 2 ∨ w = 3 ∨ w = 4 ∨ w = 5 ∨ w = 6 ∨ w = 7 by omega) with e | e | e | e | e | e | e | e <;> (subst e; rfl)
theorem sm8_cntp {g : Nat → Nat} (hg : ∀ i, g i < 8) : ∀ n, sm8 (fun r => cntp g n r) = n := by
  intro n
  induction n with
  | zero => rfl
  | succ n ih =>
    have : sm8 (fun r => cntp g (n + 1) r) = sm8 (fun r => cntp g n r + if g n = r then 1 else 0) := rfl
    rw [this, sm8_add (fun r => cntp g n r) (fun r => if g n = r then 1 else 0), ih, sm8_hit (hg n)]
def sumN : Nat → (Nat → Nat) → Nat
  | 0, _ => 0
  | n + 1, f => sumN n f + f n
theorem sumN_ge {f : Nat → Nat} : ∀ {n : Nat}, (∀ v, v < n → 1 ≤ f v) → n ≤ sumN n f := by
  intro n
  induction n with
  | zero => intro _; exact Nat.le_refl _
  | succ n ih =>
    intro h
    have h1 := ih (fun v hv => h v (by omega))
    have h2 := h n (by omega)
    simp only [sumN]
    omega
theorem sumN_congr {f g : Nat → Nat} : ∀ {n : Nat}, (∀ v, v < n → f v = g v) → sumN n f = sumN n g := by
  intro n
  induction n with
  | zero => intro _; rfl
  | succ n ih =>
    intro h
    simp only [sumN]
    rw [ih (fun v hv => h v (by omega)), h n (by omega)]
theorem sumN_sm8 (h : Nat → Nat → Nat) : ∀ n, sumN n (fun v => sm8 (fun r => h r v)) = sm8 (fun r => sumN n (h r)) := by
  intro n
  induction n with
  | zero => rfl
  | succ n ih =>
    simp only [sumN]
    rw [ih]
    simp only [sm8, sumN]
    omega
theorem sumN_add (f g : Nat → Nat) : ∀ n, sumN n (fun v => f v + g v) = sumN n f + sumN n g := by
  intro n
  induction n with
  | zero => rfl
  | succ n ih => simp only [sumN]; omega
theorem sumN_hit (w : Nat) : ∀ n, sumN n (fun v => if w = v then 1 else 0) = if w < n then 1 else 0 := by
  intro n
  induction n with
  | zero => rfl
  | succ n ih =>
    simp only [sumN]
    rw [ih]
    by_cases h1 : w < n
    · rw [if_pos h1, if_neg (by omega), if_pos (by omega)]
    · by_cases h2 : w = n
      · rw [if_neg h1, if_pos h2, if_pos (by omega)]
      · rw [if_neg h1, if_neg h2, if_neg (by omega)]
theorem sumN_0 : ∀ n, sumN n (fun _ => 0) = 0 := by
  intro n
  induction n with
  | zero => rfl
  | succ n ih => simp only [sumN]; omega
theorem sumN_cntp {g : Nat → Nat} {N : Nat} (hg : ∀ i, g i < N) : ∀ n, sumN N (fun v => cntp g n v) = n := by
  intro n
  induction n with
  | zero => exact sumN_0 N
  | succ n ih =>
    have : sumN N (fun v => cntp g (n + 1) v) = sumN N (fun v => cntp g n v + if g n = v then 1 else 0) := rfl
    rw [this, sumN_add, ih, sumN_hit, if_pos (hg n)]
theorem cntp_le (g : Nat → Nat) (v : Nat) : ∀ n, cntp g n v ≤ n := by
  intro n
  induction n with
  | zero => exact Nat.le_refl _
  | succ n ih =>
    simp only [cntp]
    by_cases h : g n = v
    · rw [if_pos h]; omega
    · rw [if_neg h]; omega
theorem cntp_none {g : Nat → Nat} {v : Nat} : ∀ {n : Nat}, (∀ i, i < n → g i ≠ v) → cntp g n v = 0 := by
  intro n
  induction n with
  | zero => intro _; rfl
  | succ n ih =>
    intro h
    simp only [cntp]
    rw [ih (fun i hi => h i (by omega)), if_neg (h n (by omega))]
theorem cntp_congr {f g : Nat → Nat} {v : Nat} : ∀ {n : Nat}, (∀ i, i < n → f i = g i) → cntp f n v = cntp g n v := by
  intro n
  induction n with
  | zero => intro _; rfl
  | succ n ih =>
    intro h
    simp only [cntp]
    rw [ih (fun i hi => h i (by omega)), h n (by omega)]
theorem cntp_two {g : Nat → Nat} {n i j : Nat} (hi : i < j) (hj : j < n) (e : g i = g j) : 2 ≤ cntp g n (g j) := by
  have h1 := cntp_pos g hi
  rw [e] at h1
  have h2 := cntp_mono g (g j) (show j + 1 ≤ n from hj)
  simp only [cntp, if_true] at h2
  omega
theorem cntp_add (g : Nat → Nat) (v a : Nat) : ∀ b, cntp g (a + b) v = cntp g a v + cntp (fun i => g (a + i)) b v := by
  intro b
  induction b with
  | zero => rfl
  | succ b ih =>
    show cntp g (a + b) v + (if g (a + b) = v then 1 else 0) = cntp g a v + (cntp (fun i => g (a + i)) b v + (if g (a + b) = v then 1 else 0))
    rw [ih]
    omega
/-- the invariant, but for the shapes -/
def cr (x : St) (v r : Nat) : Nat := if 0 < xru x r then cntp (lvs x r) (xrs x r) v else 0
def vrs (x : St) : Nat → Nat := fun i => xvr x ((xfk x + i) % 4)
def vn (x : St) : Nat := xla x + 1 - xfk x
def Vk (x : St) : Prop := 1 ≤ xfk x ∧ xfk x ≤ xla x + 1 ∧ xla x ≤ xfk x + 3
def RU (x : St) : Prop := ∀ r, r < 8 → xru x r = (if xwk x = r then 1 else 0) + cntp (vrs x) (vn x) r
def LU (x : St) : Prop := ∀ v, v < 96 → xlu x v = sm8 (cr x v)
def CI (x : St) : Prop := Bd x ∧ Vk x ∧ RU x ∧ LU x
theorem vrs_lt {x : St} (hB : Bd x) : ∀ i, vrs x i < 8 := fun i => hB.2.2.2.2.2.2.1 _
theorem lvs_lt {x : St} (hB : Bd x) (r : Nat) : ∀ i, lvs x r i < 96 := fun i => hB.2.2.2.2.2.1 _
theorem ru_sum {x : St} (h : CI x) : sm8 (xru x) ≤ 5 := by
  obtain ⟨hB, hV, hR, -⟩ := h
  rw [sm8_congr hR, sm8_add, sm8_hit hB.2.2.2.2.2.2.2, sm8_cntp (vrs_lt hB)]
  unfold vn
  have := hV.2.2
  have := hV.1
  omega
theorem live_sum {x : St} (h : CI x) : sm8 (fun r => if 0 < xru x r then 1 else 0) ≤ 5 := by
  refine Nat.le_trans (sm8_le (fun r _ => ?_)) (ru_sum h)
  by_cases hr : 0 < xru x r
  · show (if 0 < xru x r then 1 else 0) ≤ xru x r
    rw [if_pos hr]; exact hr
  · show (if 0 < xru x r then 1 else 0) ≤ xru x r
    rw [if_neg hr]; exact Nat.zero_le _
theorem cr_le {x : St} (hB : Bd x) (v r : Nat) : cr x v r ≤ 17 * (if 0 < xru x r then 1 else 0) := by
  unfold cr
  by_cases hr : 0 < xru x r
  · rw [if_pos hr, if_pos hr]
    have := cntp_le (lvs x r) v (xrs x r)
    have := hB.2.2.2.2.1 r
    omega
  · rw [if_neg hr]; exact Nat.zero_le _
theorem lu_le {x : St} (h : CI x) {v : Nat} (hv : v < 96) : xlu x v ≤ 85 := by
  rw [h.2.2.2 v hv]
  have h1 := sm8_le (fun r (_ : r < 8) => cr_le h.1 v r)
  rw [sm8_mul'] at h1
  have h2 := live_sum h
  omega
theorem freshL {x : St} (h : CI x) : ∃ f, f < 96 ∧ xlu x f = 0 ∧ ∀ j, j < f → xlu x j ≠ 0 := by
  have hex : ∃ f, f < 96 ∧ xlu x f = 0 := by
    by_cases hq : ∃ f, f < 96 ∧ xlu x f = 0
    · exact hq
    · exfalso
      have h1 : ∀ v, v < 96 → 1 ≤ xlu x v := fun v hv => Nat.pos_of_ne_zero (fun e => hq ⟨v, hv, e⟩)
      have h2 := sumN_ge h1
      rw [sumN_congr h.2.2.2, sumN_sm8 (fun r v => cr x v r) 96] at h2
      have h3 : ∀ r, r < 8 → sumN 96 (fun v => cr x v r) ≤ 17 * (if 0 < xru x r then 1 else 0) := by
        intro r _
        unfold cr
        by_cases hr : 0 < xru x r
        · rw [if_pos hr, sumN_congr (g := fun v => cntp (lvs x r) (xrs x r) v) (fun v _ => if_pos hr), sumN_cntp (lvs_lt h.1 r)]
          have := h.1.2.2.2.2.1 r
          omega
        · rw [if_neg hr, sumN_congr (g := fun _ => 0) (fun v _ => if_neg hr), sumN_0]
          exact Nat.zero_le _
      have h4 := sm8_le h3
      rw [sm8_mul'] at h4
      have h5 := live_sum h
      omega
  obtain ⟨k, hk, hm⟩ := pk_least (fun f => f < 96 ∧ xlu x f = 0) hex
  exact ⟨k, hk.1, hk.2, fun j hj e => hm j hj ⟨by omega, e⟩⟩
theorem freshR {x : St} (h : CI x) : ∃ f, f < 8 ∧ xru x f = 0 ∧ ∀ j, j < f → xru x j ≠ 0 := by
  have hex : ∃ f, f < 8 ∧ xru x f = 0 := by
    by_cases hq : ∃ f, f < 8 ∧ xru x f = 0
    · exact hq
    · exfalso
      have h1 : ∀ v, v < 8 → 1 ≤ xru x v := fun v hv => Nat.pos_of_ne_zero (fun e => hq ⟨v, hv, e⟩)
      have h2 := sm8_le h1
      have h3 := ru_sum h
      have h4 : sm8 (fun _ => 1) = 8 := rfl
      omega
  obtain ⟨k, hk, hm⟩ := pk_least (fun f => f < 8 ∧ xru x f = 0) hex
  exact ⟨k, hk.1, hk.2, fun j hj e => hm j hj ⟨by omega, e⟩⟩
theorem wk_live {x : St} (h : CI x) : 0 < xru x (xwk x) := by
  rw [h.2.2.1 (xwk x) h.1.2.2.2.2.2.2.2, if_pos rfl]
  omega
theorem vr_live {x : St} (h : CI x) {i : Nat} (hi : i < vn x) : 0 < xru x (vrs x i) := by
  rw [h.2.2.1 (vrs x i) (vrs_lt h.1 i)]
  have := cntp_pos (vrs x) hi
  omega
/-- a leaf with one user, in the working root -/
theorem own1 {x : St} (h : CI x) {q : Nat} (hq : q < xrs x (xwk x)) (h1 : xlu x (lvs x (xwk x) q) = 1) : (∀ i, i < xrs x (xwk x) → lvs x (xwk x) i = lvs x (xwk x) q → i = q) ∧ ∀ r, r < 8 → r ≠ xwk x → 0 < xru x r → ∀ i, i < xrs x r → lvs x r i ≠ lvs x (xwk x) q := by
  have hw := wk_live h
  have hlu := h.2.2.2 (lvs x (xwk x) q) (lvs_lt h.1 _ _)
  rw [h1] at hlu
  have hw8 : xwk x < 8 := h.1.2.2.2.2.2.2.2
  have hcw : cr x (lvs x (xwk x) q) (xwk x) = cntp (lvs x (xwk x)) (xrs x (xwk x)) (lvs x (xwk x) q) := by unfold cr; rw [if_pos hw]
  have hp := cntp_pos (lvs x (xwk x)) hq
  constructor
  · intro i hi e
    have hone := sm8_one (f := cr x (lvs x (xwk x) q)) hw8
    rcases Nat.lt_or_ge i q with z | z
    · have := cntp_two z hq e
      omega
    · rcases Nat.lt_or_ge q i with z2 | z2
      · have := cntp_two z2 hi e.symm
        rw [e] at this
        omega
      · omega
  · intro r hr hne hl i hi e
    have h2 := sm8_two (f := cr x (lvs x (xwk x) q)) hr hw8 hne
    have h3 : cr x (lvs x (xwk x) q) r = cntp (lvs x r) (xrs x r) (lvs x (xwk x) q) := by unfold cr; rw [if_pos hl]
    have h4 := cntp_pos (lvs x r) hi
    rw [e] at h4
    omega
/-- a leaf with no user is nowhere -/
theorem own0 {x : St} (h : CI x) {f : Nat} (hf : f < 96) (h0 : xlu x f = 0) : ∀ r, r < 8 → 0 < xru x r → ∀ i, i < xrs x r → lvs x r i ≠ f := by
  intro r hr hl i hi e
  have hlu := h.2.2.2 f hf
  have h2 := sm8_one (f := cr x f) hr
  have h3 : cr x f r = cntp (lvs x r) (xrs x r) f := by unfold cr; rw [if_pos hl]
  have h4 := cntp_pos (lvs x r) hi
  rw [e] at h4
  omega
end
section
/-! shapes: what the pages of a state hold, and what the methods do to them -/
theorem mapR_cut {α : Type} {n q : Nat} (g : Nat → α) (h : q ≤ n) : mapR n g = mapR q g ++ mapR (n - q) (fun i => g (q + i)) := by
  conv => lhs; rw [show n = q + (n - q) by omega]
  rw [mapR_add]
theorem mapR_at {α : Type} {n q : Nat} (g : Nat → α) (h : q < n) : mapR n g = mapR q g ++ g q :: mapR (n - 1 - q) (fun i => g (q + 1 + i)) := by
  rw [mapR_cut g (show q + 1 ≤ n from h), mapR_succ, List.append_assoc, show n - (q + 1) = n - 1 - q by omega]
  rfl
theorem mapR_ins {α : Type} {n q : Nat} {g g' : Nat → α} {a : α} (h : q ≤ n) (h1 : ∀ i, i < q → g' i = g i) (h2 : g' q = a) (h3 : ∀ i, i < n - q → g' (q + 1 + i) = g (q + i)) : mapR (n + 1) g' = mapR q g ++ a :: mapR (n - q) (fun i => g (q + i)) := by
  rw [mapR_at g' (show q < n + 1 by omega), mapR_congr h1, h2, show n + 1 - 1 - q = n - q by omega, mapR_congr h3]
theorem mapR_del {α : Type} {n q : Nat} {g g' : Nat → α} (h : q < n) (h1 : ∀ i, i < q → g' i = g i) (h3 : ∀ i, i < n - 1 - q → g' (q + i) = g (q + 1 + i)) : mapR (n - 1) g' = mapR q g ++ mapR (n - 1 - q) (fun i => g (q + 1 + i)) := by
  rw [mapR_cut g' (show q ≤ n - 1 by omega), mapR_congr h1, mapR_congr h3]
theorem mapR_set {α : Type} {n q : Nat} {g g' : Nat → α} {a : α} (h : q < n) (h1 : ∀ i, i < n → i ≠ q → g' i = g i) (h2 : g' q = a) : mapR n g' = mapR q g ++ a :: mapR (n - 1 - q) (fun i => g (q + 1 + i)) := by
  rw [mapR_at g' h, h2, mapR_congr (fun i hi => h1 i (by omega) (by omega)), mapR_congr (n := n - 1 - q) (fun i hi => h1 (q + 1 + i) (by omega) (by omega))]
theorem cntp_count (g : Nat → Nat) (v : Nat) : ∀ n, cntp g n v = (mapR n g).count v := by
  intro n
  induction n with
  | zero => rfl
  | succ n ih =>
    rw [mapR_succ, List.count_append, ← ih]
    simp only [cntp, List.count_singleton]
    by_cases h : g n = v
    · simp [h]
    · simp [h]
def srt (L : List (Nat × Int32)) : Prop := L.Pairwise (fun a b => a.1 < b.1)
def WFs (S : List (List (Nat × Int32))) : Prop := S.length ≤ 16 ∧ (∀ E ∈ S, 1 ≤ E.length ∧ E.length ≤ 4) ∧ (2 ≤ S.length → ∀ E ∈ S, 2 ≤ E.length) ∧ srt S.flatten
def WF (x : St) (r : Nat) : Prop := WFs (SH x r)
def OI (x : St) : Prop := ∀ r, r < 8 → r ≠ xwk x → 0 < xru x r → WF x r
def INV (x : St) : Prop := CI x ∧ ∀ r, r < 8 → 0 < xru x r → WF x r
def VV (x y : St) : Prop := xvr y = xvr x ∧ xfk y = xfk x ∧ xla y = xla x ∧ ∀ i, i < vn x → SH y (vrs x i) = SH x (vrs x i)
theorem VV.refl (x : St) : VV x x := ⟨rfl, rfl, rfl, fun _ _ => rfl⟩
theorem VV.trans {x y z : St} (h1 : VV x y) (h2 : VV y z) : VV x z := by
  obtain ⟨a1, a2, a3, a4⟩ := h1
  obtain ⟨b1, b2, b3, b4⟩ := h2
  refine ⟨b1.trans a1, b2.trans a2, b3.trans a3, fun i hi => ?_⟩
  have e1 : vrs y i = vrs x i := by unfold vrs; rw [a1, a2]
  have e2 : vn y = vn x := by unfold vn; rw [a2, a3]
  have := b4 i (by rw [e2]; exact hi)
  rw [e1] at this
  rw [this, a4 i hi]
theorem vr_ne {x : St} (h : CI x) (h1 : xru x (xwk x) = 1) {i : Nat} (hi : i < vn x) : vrs x i ≠ xwk x := by
  intro e
  have h2 := h.2.2.1 (xwk x) h.1.2.2.2.2.2.2.2
  rw [h1, if_pos rfl] at h2
  have h3 := cntp_pos (vrs x) hi
  rw [e] at h3
  omega
theorem VV_of {x y : St} (h : CI x) (h1 : xru x (xwk x) = 1) (e1 : xvr y = xvr x) (e2 : xfk y = xfk x) (e3 : xla y = xla x) (hs : ∀ r, r < 8 → r ≠ xwk x → 0 < xru x r → SH y r = SH x r) : VV x y :=
  ⟨e1, e2, e3, fun i hi => hs _ (vrs_lt h.1 i) (vr_ne h h1 hi) (vr_live h hi)⟩
theorem EL_congr {x y : St} {lf : Nat} (hB : Bd x) (h1 : xls y lf = xls x lf) (h2 : ∀ c, lf * 5 ≤ c → c < lf * 5 + 5 → xlk y c = xlk x c ∧ xlv y c = xlv x c) : EL y lf = EL x lf := by
  unfold EL
  rw [h1]
  refine mapR_congr (fun i hi => ?_)
  have b := hB.2.1 lf
  have h3 := h2 (lf * 5 + i) (by omega) (by omega)
  unfold ent
  rw [h3.1, h3.2]
theorem SH_congr {x y : St} {r r' : Nat} (h1 : xrs y r' = xrs x r) (h2 : ∀ i, i < xrs x r → EL y (lvs y r' i) = EL x (lvs x r i)) : SH y r' = SH x r := by
  unfold SH
  rw [h1]
  exact mapR_congr h2
theorem SH_at {x : St} {r q : Nat} (h : q < xrs x r) : SH x r = mapR q (fun i => EL x (lvs x r i)) ++ EL x (lvs x r q) :: mapR (xrs x r - 1 - q) (fun i => EL x (lvs x r (q + 1 + i))) := mapR_at _ h
theorem SH_len (x : St) (r : Nat) : (SH x r).length = xrs x r := mapR_len _ _
/-- the counts of leaves, one root changed -/
theorem LU_of {x y : St} {w : Nat} (h : LU x) (hw : w < 8) (hr : ∀ v r, r < 8 → r ≠ w → cr y v r = cr x v r) (hl : ∀ v, v < 96 → xlu y v + cr x v w = xlu x v + cr y v w) : LU y := by
  intro v hv
  have h1 := sm8_swap (f := cr y v) (g := cr x v) hw (fun r h2 h3 => hr v r h2 h3)
  have h2 := h v hv
  have h3 := hl v hv
  omega
theorem P_ownR {x : St} {f : Nat} (h : INV x) (h2 : 2 ≤ xru x (xwk x)) (hf : f < 8) (h0 : xru x f = 0) : INV (ownR x f) ∧ VV x (ownR x f) ∧ xru (ownR x f) (xwk (ownR x f)) = 1 ∧ SH (ownR x f) (xwk (ownR x f)) = SH x (xwk x) := by
  obtain ⟨hC, hW⟩ := h
  have hC0 := hC
  obtain ⟨hB, hV, hR, hL⟩ := hC
  have hw8 : xwk x < 8 := hB.2.2.2.2.2.2.2
  have hne : xwk x ≠ f := fun e => by rw [e] at h2; omega
  have hn := hB.2.2.2.2.1 (xwk x)
  have eru : ∀ r, xru (ownR x f) r = updN (updN (xru x) f 1) (xwk x) (xru x (xwk x) - 1) r := fun _ => rfl
  have ers : ∀ r, xrs (ownR x f) r = updN (xrs x) f (xrs x (xwk x)) r := fun _ => rfl
  have erl : ∀ r i, lvs (ownR x f) r i = cpy (xrl x) (xwk x * 17) (f * 17) (xrs x (xwk x)) (r * 17 + i) := fun _ _ => rfl
  have ru_f : xru (ownR x f) f = 1 := by rw [eru, updN_ne (fun e => hne e.symm), updN_at]
  have ru_w : xru (ownR x f) (xwk x) = xru x (xwk x) - 1 := by rw [eru, updN_at]
  have ru_o : ∀ r, r ≠ f → r ≠ xwk x → xru (ownR x f) r = xru x r := fun r e1 e2 => by rw [eru, updN_ne e2, updN_ne e1]
  have rs_f : xrs (ownR x f) f = xrs x (xwk x) := by rw [ers, updN_at]
  have rs_o : ∀ r, r ≠ f → xrs (ownR x f) r = xrs x r := fun r e1 => by rw [ers, updN_ne e1]
  have lv_f : ∀ i, i < xrs x (xwk x) → lvs (ownR x f) f i = lvs x (xwk x) i := fun i hi => by
    rw [erl]
    unfold cpy lvs
    rw [if_pos (by omega)]
    congr 1
    omega
  have lv_o : ∀ r i, r ≠ f → i < xrs x r → lvs (ownR x f) r i = lvs x r i := fun r i e hi => by
    rw [erl]
    have := hB.2.2.2.2.1 r
    exact cpy_out _ (by omega)
  have sh_f : SH (ownR x f) f = SH x (xwk x) := SH_congr rs_f (fun i hi => by rw [lv_f i hi]; rfl)
  have sh_o : ∀ r, r ≠ f → SH (ownR x f) r = SH x r := fun r e => SH_congr (rs_o r e) (fun i hi => by rw [lv_o r i e hi]; rfl)
  have live_o : ∀ r, r ≠ f → (0 < xru (ownR x f) r ↔ 0 < xru x r) := fun r e => by
    by_cases e2 : r = xwk x
    · subst e2; rw [ru_w]; omega
    · rw [ru_o r e e2]
  have hfc : cntp (vrs x) (vn x) f = 0 := by
    have := hR f hf
    rw [h0] at this
    omega
  refine ⟨⟨⟨?_, hV, ?_, ?_⟩, ?_⟩, ⟨rfl, rfl, rfl, fun i hi => sh_o _ ?_⟩, ru_f, sh_f⟩
  · refine Bd_wk (Bd_ru (Bd_rl (Bd_rs (Bd_lu hB ?_) (updN_le hB.2.2.2.2.1 hn)) (cpy_lt hB.2.2.2.2.2.1)) (updN_lt (updN_lt hB.2.2.2.1 (by decide)) ?_)) hf
    · intro v
      rcases Nat.lt_or_ge v 96 with hv | hv
      · have h3 := lu_le hC0 hv
        have h4 := cntp_le (lvs x (xwk x)) v (xrs x (xwk x))
        show xlu x v + cntp (lvs x (xwk x)) (xrs x (xwk x)) v < 128
        omega
      · have h3 := hB.1 v
        have h4 : cntp (lvs x (xwk x)) (xrs x (xwk x)) v = 0 := cntp_none (fun i _ e => by have := lvs_lt hB (xwk x) i; omega)
        show xlu x v + cntp (lvs x (xwk x)) (xrs x (xwk x)) v < 128
        omega
    · have := hB.2.2.2.1 (xwk x)
      omega
  · intro r hr
    show xru (ownR x f) r = (if f = r then 1 else 0) + cntp (vrs x) (vn x) r
    by_cases e1 : r = f
    · subst e1
      rw [ru_f, if_pos rfl, hfc]
    · rw [if_neg (fun e => e1 e.symm)]
      have := hR r hr
      by_cases e2 : r = xwk x
      · subst e2
        rw [ru_w]
        rw [if_pos rfl] at this
        omega
      · rw [ru_o r e1 e2]
        rw [if_neg (fun e => e2 e.symm)] at this
        omega
  · refine LU_of hL hf (fun v r hr e => ?_) (fun v hv => ?_)
    · unfold cr
      by_cases hl : 0 < xru x r
      · rw [if_pos hl, if_pos ((live_o r e).mpr hl), rs_o r e]
        exact cntp_congr (fun i hi => lv_o r i e hi)
      · rw [if_neg hl, if_neg (fun q => hl ((live_o r e).mp q))]
    · have h3 : cr x v f = 0 := by unfold cr; rw [if_neg (by omega)]
      have h4 : cr (ownR x f) v f = cntp (lvs x (xwk x)) (xrs x (xwk x)) v := by
        unfold cr
        rw [if_pos (by omega), rs_f]
        exact cntp_congr lv_f
      rw [h3, h4]
      rfl
  · intro r hr hl
    by_cases e : r = f
    · subst e
      show WFs (SH (ownR x r) r)
      rw [sh_f]
      exact hW _ hw8 (by omega)
    · show WFs (SH (ownR x f) r)
      rw [sh_o r e]
      exact hW r hr ((live_o r e).mp hl)
  · intro e
    have := vr_live hC0 hi
    rw [e] at this
    omega
theorem P_ownL {x : St} {q f : Nat} (hC : CI x) (hO : OI x) (h1 : xru x (xwk x) = 1) (hq : q < xrs x (xwk x)) (hf : f < 96) (h0 : xlu x f = 0) (h2 : 2 ≤ xlu x (lvs x (xwk x) q)) : CI (ownL x q f) ∧ OI (ownL x q f) ∧ VV x (ownL x q f) ∧ xlu (ownL x q f) f = 1 ∧ lvs (ownL x q f) (xwk x) q = f ∧ SH (ownL x q f) (xwk x) = SH x (xwk x) ∧ (∀ i, i < 17 → i ≠ q → lvs (ownL x q f) (xwk x) i = lvs x (xwk x) i) ∧ (∀ v, v ≠ f → v ≠ lvs x (xwk x) q → xlu (ownL x q f) v = xlu x v) := by
  have hC0 := hC
  obtain ⟨hB, hV, hR, hL⟩ := hC
  have hw8 : xwk x < 8 := hB.2.2.2.2.2.2.2
  have hn := hB.2.2.2.2.1 (xwk x)
  have ho96 := lvs_lt hB (xwk x) q
  have hne : lvs x (xwk x) q ≠ f := fun e => by rw [e] at h2; omega
  have hfr := own0 hC0 hf h0
  have erl : ∀ r i, lvs (ownL x q f) r i = updN (xrl x) (xwk x * 17 + q) f (r * 17 + i) := fun _ _ => rfl
  have lv_q : lvs (ownL x q f) (xwk x) q = f := by rw [erl, updN_at]
  have lv_w : ∀ i, i < 17 → i ≠ q → lvs (ownL x q f) (xwk x) i = lvs x (xwk x) i := fun i hi e => by rw [erl, updN_ne (by omega)]; rfl
  have lv_o : ∀ r i, r ≠ xwk x → i < xrs x r → lvs (ownL x q f) r i = lvs x r i := fun r i e hi => by
    have := hB.2.2.2.2.1 r
    rw [erl, updN_ne (by omega)]
    rfl
  have bold := hB.2.1 (lvs x (xwk x) q)
  have el_f : EL (ownL x q f) f = EL x (lvs x (xwk x) q) := by
    unfold EL
    have e1 : xls (ownL x q f) f = xls x (lvs x (xwk x) q) := updN_at _ _ _
    rw [e1]
    refine mapR_congr (fun i hi => ?_)
    unfold ent
    have e2 : xlk (ownL x q f) (f * 5 + i) = xlk x (lvs x (xwk x) q * 5 + i) := by
      show cpy (xlk x) (lvs x (xwk x) q * 5) (f * 5) (xls x (lvs x (xwk x) q)) (f * 5 + i) = _
      unfold cpy
      rw [if_pos (by omega)]
      congr 1
      omega
    have e3 : xlv (ownL x q f) (f * 5 + i) = xlv x (lvs x (xwk x) q * 5 + i) := by
      show cpy (xlv x) (lvs x (xwk x) q * 5) (f * 5) (xls x (lvs x (xwk x) q)) (f * 5 + i) = _
      unfold cpy
      rw [if_pos (by omega)]
      congr 1
      omega
    rw [e2, e3]
  have el_o : ∀ v, v ≠ f → EL (ownL x q f) v = EL x v := fun v e => EL_congr hB (updN_ne e) (fun c hc1 hc2 => ⟨cpy_out _ (by omega), cpy_out _ (by omega)⟩)
  have sh_w : SH (ownL x q f) (xwk x) = SH x (xwk x) := SH_congr rfl (fun i hi => by
    by_cases e : i = q
    · subst e
      rw [lv_q, el_f]
    · rw [lv_w i (by omega) e]
      exact el_o _ (hfr (xwk x) hw8 (by omega) i hi))
  have sh_o : ∀ r, r < 8 → r ≠ xwk x → 0 < xru x r → SH (ownL x q f) r = SH x r := fun r hr e hl => SH_congr rfl (fun i hi => by
    rw [lv_o r i e hi]
    exact el_o _ (hfr r hr hl i hi))
  refine ⟨⟨?_, hV, hR, ?_⟩, ?_, VV_of hC0 h1 rfl rfl rfl sh_o, ?_, lv_q, sh_w, lv_w, ?_⟩
  · exact Bd_rl (Bd_lu (Bd_lv (Bd_lk (Bd_ls hB (updN_le hB.2.1 bold)) (cpy_lt hB.2.2.1))) (updN_lt (updN_lt hB.1 (by decide)) (by have := hB.1 (lvs x (xwk x) q); omega))) (updN_lt hB.2.2.2.2.2.1 hf)
  · refine LU_of hL hw8 (fun v r hr e => ?_) (fun v hv => ?_)
    · unfold cr
      by_cases hl : 0 < xru x r
      · rw [if_pos hl, if_pos (show 0 < xru (ownL x q f) r from hl)]
        exact cntp_congr (fun i hi => lv_o r i e hi)
      · rw [if_neg hl, if_neg (show ¬ 0 < xru (ownL x q f) r from hl)]
    · have h3 : cr x v (xwk x) = (mapR (xrs x (xwk x)) (lvs x (xwk x))).count v := by unfold cr; rw [if_pos (by omega), cntp_count]
      have h4 : cr (ownL x q f) v (xwk x) = (mapR (xrs x (xwk x)) (lvs (ownL x q f) (xwk x))).count v := by
        unfold cr
        rw [if_pos (show 0 < xru (ownL x q f) (xwk x) by show 0 < xru x (xwk x); omega), cntp_count]
        rfl
      rw [mapR_at _ hq, List.count_append, List.count_cons] at h3
      rw [mapR_set hq (fun i hi e => lv_w i (by omega) e) lv_q, List.count_append, List.count_cons] at h4
      have h5 : xlu (ownL x q f) v = updN (updN (xlu x) f 1) (lvs x (xwk x) q) (xlu x (lvs x (xwk x) q) - 1) v := rfl
      by_cases e1 : v = f
      · subst e1
        rw [updN_ne (fun e => hne e.symm), updN_at] at h5
        simp only [beq_iff_eq, hne, if_false, if_true] at h3 h4
        omega
      · by_cases e2 : v = lvs x (xwk x) q
        · rw [e2, updN_at] at h5
          rw [e2] at h3 h4 ⊢
          simp only [beq_iff_eq, hne.symm, if_false, if_true] at h3 h4
          omega
        · rw [updN_ne e2, updN_ne e1] at h5
          have e3 : ¬ lvs x (xwk x) q = v := fun e => e2 e.symm
          have e4 : ¬ f = v := fun e => e1 e.symm
          simp only [beq_iff_eq, e3, e4, if_false] at h3 h4
          omega
  · intro r hr e hl
    show WFs (SH (ownL x q f) r)
    rw [sh_o r hr e hl]
    exact hO r hr e hl
  · show updN (updN (xlu x) f 1) (lvs x (xwk x) q) (xlu x (lvs x (xwk x) q) - 1) f = 1
    rw [updN_ne (fun e => hne e.symm), updN_at]
  · intro v e1 e2
    show updN (updN (xlu x) f 1) (lvs x (xwk x) q) (xlu x (lvs x (xwk x) q) - 1) v = _
    rw [updN_ne e2, updN_ne e1]
theorem P_mod {x : St} {q : Nat} {S K : Nat → Nat} {V : Nat → Int32} (hC : CI x) (hO : OI x) (h1 : xru x (xwk x) = 1) (hq : q < xrs x (xwk x)) (hl : xlu x (lvs x (xwk x) q) = 1) (hS : ∀ j, j ≠ lvs x (xwk x) q → S j = xls x j) (hK : ∀ c, c < lvs x (xwk x) q * 5 ∨ lvs x (xwk x) q * 5 + 5 ≤ c → K c = xlk x c ∧ V c = xlv x c) (hS5 : ∀ j, S j ≤ 5) (hK32 : ∀ c, K c < 32) :
    CI (slv (slk (sls x S) K) V) ∧ OI (slv (slk (sls x S) K) V) ∧ VV x (slv (slk (sls x S) K) V) ∧ SH (slv (slk (sls x S) K) V) (xwk x) = mapR q (fun i => EL x (lvs x (xwk x) i)) ++ EL (slv (slk (sls x S) K) V) (lvs x (xwk x) q) :: mapR (xrs x (xwk x) - 1 - q) (fun i => EL x (lvs x (xwk x) (q + 1 + i))) := by
  have hC0 := hC
  obtain ⟨hB, hV, hR, hL⟩ := hC
  obtain ⟨ow, oo⟩ := own1 hC0 hq hl
  have el_o : ∀ v, v ≠ lvs x (xwk x) q → EL (slv (slk (sls x S) K) V) v = EL x v := fun v e => EL_congr hB (hS v e) (fun c hc1 hc2 => hK c (by omega))
  have sh_o : ∀ r, r < 8 → r ≠ xwk x → 0 < xru x r → SH (slv (slk (sls x S) K) V) r = SH x r := fun r hr e hlv => SH_congr rfl (fun i hi => el_o _ (oo r hr e hlv i hi))
  refine ⟨⟨Bd_lv (Bd_lk (Bd_ls hB hS5) hK32), hV, hR, hL⟩, ?_, VV_of hC0 h1 rfl rfl rfl sh_o, ?_⟩
  · intro r hr e hlv
    show WFs (SH (slv (slk (sls x S) K) V) r)
    rw [sh_o r hr e hlv]
    exact hO r hr e hlv
  · exact mapR_set hq (fun i hi e => el_o _ (fun e2 => e (ow i hi e2))) rfl
theorem P_ins {x : St} {q f : Nat} {S K : Nat → Nat} {V : Nat → Int32} (hC : CI x) (hO : OI x) (h1 : xru x (xwk x) = 1) (hq : q ≤ xrs x (xwk x)) (hs : xrs x (xwk x) ≤ 16) (hf : f < 96) (h0 : xlu x f = 0) (hS : ∀ j, j ≠ f → S j = xls x j) (hK : ∀ c, c < f * 5 ∨ f * 5 + 5 ≤ c → K c = xlk x c ∧ V c = xlv x c) (hS5 : ∀ j, S j ≤ 5) (hK32 : ∀ c, K c < 32) (z : St) (hz : z = slu (slv (slk (sls x S) K) V) (updN (xlu x) f 1)) :
    CI (insL z q f) ∧ OI (insL z q f) ∧ VV x (insL z q f) ∧ SH (insL z q f) (xwk x) = mapR q (fun i => EL x (lvs x (xwk x) i)) ++ EL z f :: mapR (xrs x (xwk x) - q) (fun i => EL x (lvs x (xwk x) (q + i))) ∧ lvs (insL z q f) (xwk x) q = f ∧ xlu (insL z q f) f = 1 ∧ xrs (insL z q f) (xwk x) = xrs x (xwk x) + 1 := by
  have hC0 := hC
  obtain ⟨hB, hV, hR, hL⟩ := hC
  have hw8 : xwk x < 8 := hB.2.2.2.2.2.2.2
  have hfr := own0 hC0 hf h0
  subst hz
  generalize hz : slu (slv (slk (sls x S) K) V) (updN (xlu x) f 1) = z
  have zrl : xrl z = xrl x := by rw [← hz]
  have zrs : xrs z = xrs x := by rw [← hz]
  have zru : xru z = xru x := by rw [← hz]
  have zwk : xwk z = xwk x := by rw [← hz]
  have zlu : xlu z = updN (xlu x) f 1 := by rw [← hz]
  have ers : ∀ r, xrs (insL z q f) r = updN (xrs x) (xwk x) (xrs x (xwk x) + 1) r := fun r => by
    show updN (xrs z) (xwk z) (xrs z (xwk z) + 1) r = _
    rw [zrs, zwk]
  have erl : ∀ r i, lvs (insL z q f) r i = updN (shU (xrl x) (xwk x * 17 + q) (xwk x * 17 + xrs x (xwk x))) (xwk x * 17 + q) f (r * 17 + i) := fun r i => by
    show updN (shU (xrl z) (xwk z * 17 + q) (xwk z * 17 + xrs z (xwk z))) (xwk z * 17 + q) f (r * 17 + i) = _
    rw [zrl, zwk, zrs]
  have elu : ∀ v, xlu (insL z q f) v = updN (xlu x) f 1 v := fun v => by
    show xlu z v = _
    rw [zlu]
  have rs_w : xrs (insL z q f) (xwk x) = xrs x (xwk x) + 1 := by rw [ers, updN_at]
  have rs_o : ∀ r, r ≠ xwk x → xrs (insL z q f) r = xrs x r := fun r e => by rw [ers, updN_ne e]
  have lv_lo : ∀ i, i < q → lvs (insL z q f) (xwk x) i = lvs x (xwk x) i := fun i hi => by rw [erl, updN_ne (by omega), shU_lo _ (by omega)]; rfl
  have lv_q : lvs (insL z q f) (xwk x) q = f := by rw [erl, updN_at]
  have lv_hi : ∀ i, i < xrs x (xwk x) - q → lvs (insL z q f) (xwk x) (q + 1 + i) = lvs x (xwk x) (q + i) := fun i hi => by
    rw [erl, updN_ne (by omega)]
    unfold shU lvs
    rw [if_pos (by omega)]
    congr 1
    omega
  have lv_o : ∀ r i, r ≠ xwk x → i < xrs x r → lvs (insL z q f) r i = lvs x r i := fun r i e hi => by
    have := hB.2.2.2.2.1 r
    rw [erl, updN_ne (by omega)]
    unfold shU lvs
    rw [if_neg (by omega)]
  have el_o : ∀ v, v ≠ f → EL (insL z q f) v = EL x v := fun v e => EL_congr hB (by show xls z v = _; rw [← hz]; exact hS v e) (fun c hc1 hc2 => by
    show xlk z c = _ ∧ xlv z c = _
    rw [← hz]
    exact hK c (by omega))
  have sh_o : ∀ r, r < 8 → r ≠ xwk x → 0 < xru x r → SH (insL z q f) r = SH x r := fun r hr e hl => SH_congr (rs_o r e) (fun i hi => by
    rw [lv_o r i e hi]
    exact el_o _ (hfr r hr hl i hi))
  have sh_w : SH (insL z q f) (xwk x) = mapR q (fun i => EL x (lvs x (xwk x) i)) ++ EL z f :: mapR (xrs x (xwk x) - q) (fun i => EL x (lvs x (xwk x) (q + i))) := by
    unfold SH
    rw [rs_w]
    refine mapR_ins hq (fun i hi => ?_) ?_ (fun i hi => ?_)
    · rw [lv_lo i hi]
      exact el_o _ (hfr _ hw8 (by omega) i (by omega))
    · rw [lv_q]
      rfl
    · rw [lv_hi i hi]
      exact el_o _ (hfr _ hw8 (by omega) (q + i) (by omega))
  have eru : ∀ r, xru (insL z q f) r = xru x r := fun r => by
    show xru z r = _
    rw [zru]
  refine ⟨⟨?_, ?_, ?_, ?_⟩, ?_, VV_of hC0 h1 (by rw [← hz]; rfl) (by rw [← hz]; rfl) (by rw [← hz]; rfl) sh_o, sh_w, lv_q, ?_, rs_w⟩
  · refine Bd_insL ?_ (by rw [zrs, zwk]; exact hs) hf
    rw [← hz]
    exact Bd_lu (Bd_lv (Bd_lk (Bd_ls hB hS5) hK32)) (updN_lt hB.1 (by decide))
  · rw [← hz]; exact hV
  · rw [← hz]; exact hR
  · refine LU_of hL hw8 (fun v r hr e => ?_) (fun v hv => ?_)
    · unfold cr
      by_cases hl : 0 < xru x r
      · rw [if_pos hl, if_pos (show 0 < xru (insL z q f) r by rw [eru]; exact hl), rs_o r e]
        exact cntp_congr (fun i hi => lv_o r i e hi)
      · rw [if_neg hl, if_neg (show ¬ 0 < xru (insL z q f) r by rw [eru]; exact hl)]
    · have h3 : cr x v (xwk x) = (mapR (xrs x (xwk x)) (lvs x (xwk x))).count v := by unfold cr; rw [if_pos (by omega), cntp_count]
      have h4 : cr (insL z q f) v (xwk x) = (mapR (xrs x (xwk x) + 1) (lvs (insL z q f) (xwk x))).count v := by
        unfold cr
        rw [if_pos (show 0 < xru (insL z q f) (xwk x) by rw [eru]; omega), cntp_count, rs_w]
      rw [mapR_cut _ hq, List.count_append] at h3
      rw [mapR_ins hq lv_lo lv_q lv_hi, List.count_append, List.count_cons] at h4
      rw [elu]
      by_cases e1 : v = f
      · subst e1
        rw [updN_at]
        simp only [beq_iff_eq, if_true] at h4
        omega
      · rw [updN_ne e1]
        have e4 : ¬ f = v := fun e => e1 e.symm
        simp only [beq_iff_eq, e4, if_false] at h4
        omega
  · intro r hr e hl
    have e' : r ≠ xwk x := by rw [← zwk]; exact e
    show WFs (SH (insL z q f) r)
    rw [eru] at hl
    rw [sh_o r hr e' hl]
    exact hO r hr e' hl
  · rw [elu, updN_at]
theorem P_drp {x : St} {q : Nat} (hC : CI x) (hO : OI x) (h1 : xru x (xwk x) = 1) (hq : q < xrs x (xwk x)) :
    CI (drpL x q) ∧ OI (drpL x q) ∧ VV x (drpL x q) ∧ 1 ≤ xlu x (lvs x (xwk x) q) ∧ SH (drpL x q) (xwk x) = mapR q (fun i => EL x (lvs x (xwk x) i)) ++ mapR (xrs x (xwk x) - 1 - q) (fun i => EL x (lvs x (xwk x) (q + 1 + i))) := by
  have hC0 := hC
  obtain ⟨hB, hV, hR, hL⟩ := hC
  have hw8 : xwk x < 8 := hB.2.2.2.2.2.2.2
  have hn := hB.2.2.2.2.1 (xwk x)
  have ho96 := lvs_lt hB (xwk x) q
  have hge : 1 ≤ xlu x (lvs x (xwk x) q) := by
    rw [hL _ ho96]
    have a1 := sm8_one (f := cr x (lvs x (xwk x) q)) hw8
    have a2 : cr x (lvs x (xwk x) q) (xwk x) = cntp (lvs x (xwk x)) (xrs x (xwk x)) (lvs x (xwk x) q) := by unfold cr; rw [if_pos (by omega)]
    have a3 := cntp_pos (lvs x (xwk x)) hq
    omega
  have ers : ∀ r, xrs (drpL x q) r = updN (xrs x) (xwk x) (xrs x (xwk x) - 1) r := fun _ => rfl
  have erl : ∀ r i, lvs (drpL x q) r i = shD (xrl x) (xwk x * 17 + q) (xwk x * 17 + (xrs x (xwk x) - 1)) (r * 17 + i) := fun _ _ => rfl
  have elu : ∀ v, xlu (drpL x q) v = updN (xlu x) (lvs x (xwk x) q) (xlu x (lvs x (xwk x) q) - 1) v := fun _ => rfl
  have rs_w : xrs (drpL x q) (xwk x) = xrs x (xwk x) - 1 := by rw [ers, updN_at]
  have rs_o : ∀ r, r ≠ xwk x → xrs (drpL x q) r = xrs x r := fun r e => by rw [ers, updN_ne e]
  have lv_lo : ∀ i, i < q → lvs (drpL x q) (xwk x) i = lvs x (xwk x) i := fun i hi => by
    rw [erl]; unfold shD lvs; rw [if_neg (by omega)]
  have lv_hi : ∀ i, i < xrs x (xwk x) - 1 - q → lvs (drpL x q) (xwk x) (q + i) = lvs x (xwk x) (q + 1 + i) := fun i hi => by
    rw [erl]; unfold shD lvs; rw [if_pos (by omega)]
    congr 1
    omega
  have lv_o : ∀ r i, r ≠ xwk x → i < xrs x r → lvs (drpL x q) r i = lvs x r i := fun r i e hi => by
    have := hB.2.2.2.2.1 r
    rw [erl]; unfold shD lvs; rw [if_neg (by omega)]
  have sh_o : ∀ r, r < 8 → r ≠ xwk x → 0 < xru x r → SH (drpL x q) r = SH x r := fun r hr e hl => SH_congr (rs_o r e) (fun i hi => by
    rw [lv_o r i e hi]
    rfl)
  refine ⟨⟨Bd_drpL hB, hV, hR, ?_⟩, ?_, VV_of hC0 h1 rfl rfl rfl sh_o, hge, ?_⟩
  · refine LU_of hL hw8 (fun v r hr e => ?_) (fun v hv => ?_)
    · unfold cr
      by_cases hl : 0 < xru x r
      · rw [if_pos hl, if_pos (show 0 < xru (drpL x q) r from hl), rs_o r e]
        exact cntp_congr (fun i hi => lv_o r i e hi)
      · rw [if_neg hl, if_neg (show ¬ 0 < xru (drpL x q) r from hl)]
    · have h3 : cr x v (xwk x) = (mapR (xrs x (xwk x)) (lvs x (xwk x))).count v := by unfold cr; rw [if_pos (by omega), cntp_count]
      have h4 : cr (drpL x q) v (xwk x) = (mapR (xrs x (xwk x) - 1) (lvs (drpL x q) (xwk x))).count v := by
        unfold cr
        rw [if_pos (show 0 < xru (drpL x q) (xwk x) by show 0 < xru x (xwk x); omega), cntp_count, rs_w]
      rw [mapR_at _ hq, List.count_append, List.count_cons] at h3
      rw [mapR_del hq lv_lo lv_hi, List.count_append] at h4
      rw [elu]
      by_cases e2 : v = lvs x (xwk x) q
      · rw [e2, updN_at]
        rw [e2] at h3 h4
        simp only [beq_iff_eq, if_true] at h3
        omega
      · rw [updN_ne e2]
        have e3 : ¬ lvs x (xwk x) q = v := fun e => e2 e.symm
        simp only [beq_iff_eq, e3, if_false] at h3
        omega
  · intro r hr e hl
    show WFs (SH (drpL x q) r)
    rw [sh_o r hr e hl]
    exact hO r hr e hl
  · unfold SH
    rw [rs_w]
    refine mapR_del hq (fun i hi => ?_) (fun i hi => ?_)
    · rw [lv_lo i hi]; rfl
    · rw [lv_hi i hi]; rfl
end
section
/-! sorted lists, the cut of a table at a key -/
theorem srt_app {L M : List (Nat × Int32)} : srt (L ++ M) ↔ srt L ∧ srt M ∧ ∀ a ∈ L, ∀ b ∈ M, a.1 < b.1 := List.pairwise_append
theorem srt_cons {e : Nat × Int32} {M : List (Nat × Int32)} : srt (e :: M) ↔ (∀ b ∈ M, e.1 < b.1) ∧ srt M := List.pairwise_cons
theorem srt_nil : srt [] := List.Pairwise.nil
theorem srt_len {L : List (Nat × Int32)} : ∀ {a n : Nat}, srt L → (∀ e ∈ L, a ≤ e.1 ∧ e.1 < n) → L.length ≤ n - a := by
  induction L with
  | nil => intro a n _ _; exact Nat.zero_le _
  | cons e L ih =>
    intro a n h hb
    obtain ⟨h1, h2⟩ := srt_cons.mp h
    have h3 := hb e List.mem_cons_self
    have h4 := ih (a := e.1 + 1) (n := n) h2 (fun b hbL => ⟨h1 b hbL, (hb b (List.mem_cons_of_mem _ hbL)).2⟩)
    rw [List.length_cons]
    omega
theorem srt_len32 {L : List (Nat × Int32)} (h : srt L) (hb : ∀ e ∈ L, e.1 < 32) : L.length ≤ 32 := srt_len (a := 0) h (fun e he => ⟨Nat.zero_le _, hb e he⟩)
theorem srt_ext {L M : List (Nat × Int32)} : srt L → srt M → (∀ e, e ∈ L ↔ e ∈ M) → L = M := by
  induction L generalizing M with
  | nil =>
    intro _ _ h
    cases M with
    | nil => rfl
    | cons e M => exact absurd ((h e).mpr List.mem_cons_self) List.not_mem_nil
  | cons a L ih =>
    intro hL hM h
    cases M with
    | nil => exact absurd ((h a).mp List.mem_cons_self) List.not_mem_nil
    | cons b M =>
      obtain ⟨l1, l2⟩ := srt_cons.mp hL
      obtain ⟨m1, m2⟩ := srt_cons.mp hM
      have e1 : a = b := by
        rcases List.mem_cons.mp ((h a).mp List.mem_cons_self) with q | q
        · exact q
        · rcases List.mem_cons.mp ((h b).mpr List.mem_cons_self) with z | z
          · exact z.symm
          · have := m1 a q
            have := l1 b z
            omega
      subst e1
      congr 1
      refine ih l2 m2 (fun e => ⟨fun he => ?_, fun he => ?_⟩)
      · rcases List.mem_cons.mp ((h e).mp (List.mem_cons_of_mem _ he)) with q | q
        · subst q; exact absurd (l1 e he) (Nat.lt_irrefl _)
        · exact q
      · rcases List.mem_cons.mp ((h e).mpr (List.mem_cons_of_mem _ he)) with q | q
        · subst q; exact absurd (m1 e he) (Nat.lt_irrefl _)
        · exact q
theorem srt_key {L : List (Nat × Int32)} (h : srt L) {a b : Nat × Int32} (ha : a ∈ L) (hb : b ∈ L) (e : a.1 = b.1) : a = b := by
  induction L with
  | nil => exact absurd ha List.not_mem_nil
  | cons c L ih =>
    obtain ⟨h1, h2⟩ := srt_cons.mp h
    rcases List.mem_cons.mp ha with qa | qa
    · rcases List.mem_cons.mp hb with qb | qb
      · rw [qa, qb]
      · subst qa; have := h1 b qb; omega
    · rcases List.mem_cons.mp hb with qb | qb
      · subst qb; have := h1 a qa; omega
      · exact ih h2 qa qb
def PutR (F F' : List (Nat × Int32)) (k : Nat) (v : Int32) : Prop := ∃ L1 L2, F' = L1 ++ (k, v) :: L2 ∧ (∀ e ∈ L1, e.1 < k) ∧ (∀ e ∈ L2, k < e.1) ∧ (F = L1 ++ L2 ∨ ∃ w, F = L1 ++ (k, w) :: L2)
def RemR (F F' : List (Nat × Int32)) (k : Nat) : Prop := ∃ L1 L2 w, F = L1 ++ (k, w) :: L2 ∧ F' = L1 ++ L2
theorem PutR.sorted {F F' : List (Nat × Int32)} {k : Nat} {v : Int32} (h : PutR F F' k v) (hs : srt F) : srt F' := by
  obtain ⟨L1, L2, e, h1, h2, hF⟩ := h
  have h3 : srt L1 ∧ srt L2 := by
    rcases hF with hF | ⟨w, hF⟩
    · rw [hF] at hs; exact ⟨(srt_app.mp hs).1, (srt_app.mp hs).2.1⟩
    · rw [hF] at hs; exact ⟨(srt_app.mp hs).1, (srt_cons.mp (srt_app.mp hs).2.1).2⟩
  rw [e]
  refine srt_app.mpr ⟨h3.1, srt_cons.mpr ⟨h2, h3.2⟩, fun a ha b hb => ?_⟩
  have ha1 := h1 a ha
  rcases List.mem_cons.mp hb with q | q
  · rw [q]; exact ha1
  · exact Nat.lt_trans ha1 (h2 b q)
theorem PutR.mem {F F' : List (Nat × Int32)} {k : Nat} {v : Int32} (h : PutR F F' k v) (e : Nat × Int32) : e ∈ F' ↔ e = (k, v) ∨ (e ∈ F ∧ e.1 ≠ k) := by
  obtain ⟨L1, L2, eF, h1, h2, hF⟩ := h
  rw [eF, List.mem_append, List.mem_cons]
  have hm : (e ∈ F ∧ e.1 ≠ k) ↔ (e ∈ L1 ∨ e ∈ L2) := by
    rcases hF with hF | ⟨w, hF⟩
    · rw [hF, List.mem_append]
      refine ⟨fun q => q.1, fun q => ⟨q, fun ek => ?_⟩⟩
      rcases q with q | q
      · have := h1 e q; omega
      · have := h2 e q; omega
    · rw [hF, List.mem_append, List.mem_cons]
      refine ⟨fun q => ?_, fun q => ⟨?_, fun ek => ?_⟩⟩
      · rcases q with ⟨q | q | q, hk⟩
        · exact Or.inl q
        · exact absurd (by rw [q]) hk
        · exact Or.inr q
      · rcases q with q | q
        · exact Or.inl q
        · exact Or.inr (Or.inr q)
      · rcases q with q | q
        · have := h1 e q; omega
        · have := h2 e q; omega
  rw [hm]
  constructor
  · rintro (q | q | q)
    · exact Or.inr (Or.inl q)
    · exact Or.inl q
    · exact Or.inr (Or.inr q)
  · rintro (q | q | q)
    · exact Or.inr (Or.inl q)
    · exact Or.inl q
    · exact Or.inr (Or.inr q)
theorem RemR.sorted {F F' : List (Nat × Int32)} {k : Nat} (h : RemR F F' k) (hs : srt F) : srt F' := by
  obtain ⟨L1, L2, w, e1, e2⟩ := h
  rw [e1] at hs
  obtain ⟨a1, a2, a3⟩ := srt_app.mp hs
  rw [e2]
  exact srt_app.mpr ⟨a1, (srt_cons.mp a2).2, fun a ha b hb => a3 a ha b (List.mem_cons_of_mem _ hb)⟩
theorem RemR.mem {F F' : List (Nat × Int32)} {k : Nat} (h : RemR F F' k) (hs : srt F) (e : Nat × Int32) : e ∈ F' ↔ e ∈ F ∧ e.1 ≠ k := by
  obtain ⟨L1, L2, w, e1, e2⟩ := h
  rw [e1] at hs
  obtain ⟨a1, a2, a3⟩ := srt_app.mp hs
  obtain ⟨b1, b2⟩ := srt_cons.mp a2
  rw [e1, e2, List.mem_append, List.mem_append, List.mem_cons]
  constructor
  · rintro (q | q)
    · exact ⟨Or.inl q, fun ek => by have h9 : e.1 < k := a3 e q (k, w) List.mem_cons_self; omega⟩
    · exact ⟨Or.inr (Or.inr q), fun ek => by have h9 : k < e.1 := b1 e q; omega⟩
  · rintro ⟨q | q | q, hk⟩
    · exact Or.inl q
    · exact absurd (by rw [q]) hk
    · exact Or.inr q
/-! where a key is -/
theorem plc_spec (x : St) (r : Nat) (k : Int32) : ∀ j, (plc x r k j = 0 ∨ ¬ k < nI (xlk x (lvs x r (plc x r k j) * 5))) ∧ ∀ i, plc x r k j < i → i ≤ j → k < nI (xlk x (lvs x r i * 5)) := by
  intro j
  induction j with
  | zero => exact ⟨Or.inl rfl, fun i h1 h2 => by omega⟩
  | succ j ih =>
    by_cases h : k < nI (xlk x (lvs x r (j + 1) * 5))
    · have e : plc x r k (j + 1) = plc x r k j := by
        show (if k < nI (xlk x (lvs x r (j + 1) * 5)) then plc x r k j else j + 1) = _
        rw [if_pos h]
      rw [e]
      refine ⟨ih.1, fun i h1 h2 => ?_⟩
      by_cases e2 : i = j + 1
      · rw [e2]; exact h
      · exact ih.2 i h1 (by omega)
    · have e : plc x r k (j + 1) = j + 1 := by
        show (if k < nI (xlk x (lvs x r (j + 1) * 5)) then plc x r k j else j + 1) = _
        rw [if_neg h]
      rw [e]
      exact ⟨Or.inr h, fun i h1 h2 => by omega⟩
theorem belF_spec (x : St) (lf : Nat) (k : Int32) : ∀ m n, (∀ j, n ≤ j → j < belF x lf k m n → nI (xlk x (lf * 5 + j)) < k) ∧ (belF x lf k m n < m + n → ¬ nI (xlk x (lf * 5 + belF x lf k m n)) < k) := by
  intro m
  induction m with
  | zero => intro n; exact ⟨fun j h1 h2 => by simp only [belF] at h2; omega, fun h => by simp only [belF] at h; omega⟩
  | succ m ih =>
    intro n
    by_cases h : nI (xlk x (lf * 5 + n)) < k
    · have e : belF x lf k (m + 1) n = belF x lf k m (n + 1) := by
        show (if nI (xlk x (lf * 5 + n)) < k then belF x lf k m (n + 1) else n) = _
        rw [if_pos h]
      rw [e]
      obtain ⟨a, b⟩ := ih (n + 1)
      refine ⟨fun j h1 h2 => ?_, fun h2 => b (by omega)⟩
      by_cases e2 : j = n
      · rw [e2]; exact h
      · exact a j (by omega) h2
    · have e : belF x lf k (m + 1) n = n := by
        show (if nI (xlk x (lf * 5 + n)) < k then belF x lf k m (n + 1) else n) = _
        rw [if_neg h]
      rw [e]
      exact ⟨fun j h1 h2 => by omega, fun _ => h⟩
theorem bel_lt (x : St) (lf : Nat) (k : Int32) {j : Nat} (h : j < bel x lf k) : nI (xlk x (lf * 5 + j)) < k := (belF_spec x lf k (xls x lf) 0).1 j (Nat.zero_le _) h
theorem bel_ge (x : St) (lf : Nat) (k : Int32) (h : bel x lf k < xls x lf) : ¬ nI (xlk x (lf * 5 + bel x lf k)) < k := (belF_spec x lf k (xls x lf) 0).2 h
theorem nI_lt32 {a b : Nat} (ha : a < 32) (hb : b < 32) : nI a < nI b ↔ a < b := nI_ltI (by omega) (by omega)
theorem nI_le32 {a b : Nat} (ha : a < 32) (hb : b < 32) : nI a ≤ nI b ↔ a ≤ b := nI_leI (by omega) (by omega)
theorem EL_mem {x : St} {lf : Nat} {e : Nat × Int32} : e ∈ EL x lf ↔ ∃ i, i < xls x lf ∧ ent x lf i = e := mapR_mem
theorem EL_k32 {x : St} (hB : Bd x) {lf : Nat} {e : Nat × Int32} (h : e ∈ EL x lf) : e.1 < 32 := by
  obtain ⟨i, -, rfl⟩ := EL_mem.mp h
  exact hB.2.2.1 _
theorem SH_mem {x : St} {r : Nat} {E : List (Nat × Int32)} : E ∈ SH x r ↔ ∃ i, i < xrs x r ∧ EL x (lvs x r i) = E := mapR_mem
theorem FL_mem {x : St} {r : Nat} {e : Nat × Int32} : e ∈ FL x r ↔ ∃ i, i < xrs x r ∧ e ∈ EL x (lvs x r i) := by
  unfold FL
  rw [List.mem_flatten]
  constructor
  · rintro ⟨E, hE, he⟩
    obtain ⟨i, hi, rfl⟩ := SH_mem.mp hE
    exact ⟨i, hi, he⟩
  · rintro ⟨i, hi, he⟩
    exact ⟨_, SH_mem.mpr ⟨i, hi, rfl⟩, he⟩
theorem FL_k32 {x : St} (hB : Bd x) {r : Nat} {e : Nat × Int32} (h : e ∈ FL x r) : e.1 < 32 := by
  obtain ⟨i, -, he⟩ := FL_mem.mp h
  exact EL_k32 hB he
/-- within a sorted leaf -/
theorem EL_srt {x : St} {lf : Nat} (h : srt (EL x lf)) {i j : Nat} (hij : i < j) (hj : j < xls x lf) : xlk x (lf * 5 + i) < xlk x (lf * 5 + j) := by
  unfold EL at h
  rw [mapR_at _ hj] at h
  obtain ⟨-, -, h3⟩ := srt_app.mp h
  exact h3 (ent x lf i) (mapR_mem.mpr ⟨i, hij, rfl⟩) (ent x lf j) List.mem_cons_self
theorem flat_at {A B : List (List (Nat × Int32))} {E : List (Nat × Int32)} : (A ++ E :: B).flatten = A.flatten ++ (E ++ B.flatten) := by
  rw [List.flatten_append, List.flatten_cons]
/-- the place of a key: what lies left of it and right of it -/
theorem place_cut {x : St} {r : Nat} (hB : Bd x) (hs : srt (FL x r)) (h1 : ∀ i, i < xrs x r → 1 ≤ xls x (lvs x r i)) (h0 : xrs x r ≠ 0) (k : Int32) :
    (∀ e ∈ (mapR (plc x r k (xrs x r - 1)) (fun i => EL x (lvs x r i))).flatten, nI e.1 < k) ∧ ∀ e ∈ (mapR (xrs x r - 1 - plc x r k (xrs x r - 1)) (fun i => EL x (lvs x r (plc x r k (xrs x r - 1) + 1 + i)))).flatten, k < nI e.1 := by
  have hq : plc x r k (xrs x r - 1) < xrs x r := by have := plc_le x r k (xrs x r - 1); omega
  obtain ⟨p1, p2⟩ := plc_spec x r k (xrs x r - 1)
  generalize plc x r k (xrs x r - 1) = q at hq p1 p2 ⊢
  have hs2 := hs
  unfold FL at hs2
  rw [SH_at hq, flat_at] at hs2
  obtain ⟨sA, sR, sAR⟩ := srt_app.mp hs2
  constructor
  · intro e he
    rcases p1 with p1 | p1
    · subst p1
      exact absurd he List.not_mem_nil
    · have hm : ent x (lvs x r q) 0 ∈ EL x (lvs x r q) := EL_mem.mpr ⟨0, h1 q hq, rfl⟩
      have hlt := sAR e he (ent x (lvs x r q) 0) (List.mem_append_left _ hm)
      have he32 : e.1 < 32 := by
        obtain ⟨E, hE, he2⟩ := List.mem_flatten.mp he
        obtain ⟨i, hi, rfl⟩ := mapR_mem.mp hE
        exact EL_k32 hB he2
      have hk32 := EL_k32 hB hm
      have hlt2 := (nI_lt32 he32 hk32).mpr hlt
      exact Int32.lt_of_lt_of_le hlt2 (Int32.not_lt.mp p1)
  · intro e he
    obtain ⟨E, hE, he2⟩ := List.mem_flatten.mp he
    obtain ⟨i, hi, rfl⟩ := mapR_mem.mp hE
    have hq2 : q + 1 + i < xrs x r := by omega
    have hk := p2 (q + 1 + i) (by omega) (by omega)
    obtain ⟨j, hj, rfl⟩ := EL_mem.mp he2
    have hsE : srt (EL x (lvs x r (q + 1 + i))) := by
      have hs3 := hs
      unfold FL at hs3
      rw [SH_at hq2, flat_at] at hs3
      exact (srt_app.mp (srt_app.mp hs3).2.1).1
    have hle : xlk x (lvs x r (q + 1 + i) * 5 + 0) ≤ xlk x (lvs x r (q + 1 + i) * 5 + j) := by
      rcases Nat.eq_zero_or_pos j with z | z
      · rw [z]; exact Nat.le_refl _
      · exact Nat.le_of_lt (EL_srt hsE z hj)
    exact Int32.lt_of_lt_of_le hk ((nI_le32 (hB.2.2.1 _) (hB.2.2.1 _)).mpr hle)
theorem leaf_cut {x : St} {lf : Nat} (hB : Bd x) (hs : srt (EL x lf)) (k : Int32) : EL x lf = mapR (bel x lf k) (ent x lf) ++ mapR (xls x lf - bel x lf k) (fun j => ent x lf (bel x lf k + j)) ∧ (∀ e ∈ mapR (bel x lf k) (ent x lf), nI e.1 < k) ∧ ∀ e ∈ mapR (xls x lf - bel x lf k) (fun j => ent x lf (bel x lf k + j)), ¬ nI e.1 < k := by
  refine ⟨mapR_cut _ (bel_le x lf k), fun e he => ?_, fun e he => ?_⟩
  · obtain ⟨i, hi, rfl⟩ := mapR_mem.mp he
    exact bel_lt x lf k hi
  · obtain ⟨j, hj, rfl⟩ := mapR_mem.mp he
    have h1 := bel_ge x lf k (by omega)
    intro h2
    refine h1 ?_
    rcases Nat.eq_zero_or_pos j with z | z
    · rw [z] at h2; exact h2
    · have := EL_srt hs (show bel x lf k < bel x lf k + j by omega) (by omega)
      exact Int32.lt_trans ((nI_lt32 (hB.2.2.1 _) (hB.2.2.1 _)).mpr this) h2
/-- a table cut at a key: its rank, its cell -/
theorem tab_cut {x : St} {r : Nat} (hB : Bd x) (hs : srt (FL x r)) (h1 : ∀ i, i < xrs x r → 1 ≤ xls x (lvs x r i)) (k : Int32) :
    ∃ L1 L2, FL x r = L1 ++ L2 ∧ (∀ e ∈ L1, nI e.1 < k) ∧ (∀ e ∈ L2, ¬ nI e.1 < k) ∧ rkN x r k = L1.length ∧ (∀ c, celO x r k = some c → nI (xlk x c) = k ∧ ∃ M, L2 = (xlk x c, xlv x c) :: M) ∧ (celO x r k = none → ∀ e ∈ L2, nI e.1 ≠ k) := by
  by_cases h0 : xrs x r = 0
  · refine ⟨[], [], ?_, fun e he => absurd he List.not_mem_nil, fun e he => absurd he List.not_mem_nil, ?_, fun c hc => ?_, fun _ e he => absurd he List.not_mem_nil⟩
    · unfold FL SH
      rw [h0]
      rfl
    · unfold rkN
      rw [if_pos h0]
      rfl
    · unfold celO at hc
      rw [if_pos h0] at hc
      cases hc
  · obtain ⟨pA, pB⟩ := place_cut hB hs h1 h0 k
    have hq : plc x r k (xrs x r - 1) < xrs x r := by have := plc_le x r k (xrs x r - 1); omega
    have eR : rkN x r k = (FLn x r (plc x r k (xrs x r - 1))).length + bel x (lvs x r (plc x r k (xrs x r - 1))) k := by unfold rkN; rw [if_neg h0]
    have eC : celO x r k = if bel x (lvs x r (plc x r k (xrs x r - 1))) k < xls x (lvs x r (plc x r k (xrs x r - 1))) ∧ nI (xlk x (lvs x r (plc x r k (xrs x r - 1)) * 5 + bel x (lvs x r (plc x r k (xrs x r - 1))) k)) = k then some (lvs x r (plc x r k (xrs x r - 1)) * 5 + bel x (lvs x r (plc x r k (xrs x r - 1))) k) else none := by unfold celO; rw [if_neg h0]
    generalize plc x r k (xrs x r - 1) = q at pA pB hq eR eC
    have hs2 := hs
    unfold FL at hs2
    rw [SH_at hq, flat_at] at hs2
    have hsE := (srt_app.mp (srt_app.mp hs2).2.1).1
    obtain ⟨cE, c1, c2⟩ := leaf_cut hB hsE k
    have hbl := bel_le x (lvs x r q) k
    refine ⟨(mapR q (fun i => EL x (lvs x r i))).flatten ++ mapR (bel x (lvs x r q) k) (ent x (lvs x r q)), mapR (xls x (lvs x r q) - bel x (lvs x r q) k) (fun j => ent x (lvs x r q) (bel x (lvs x r q) k + j)) ++ (mapR (xrs x r - 1 - q) (fun i => EL x (lvs x r (q + 1 + i)))).flatten, ?_, ?_, ?_, ?_, ?_, ?_⟩
    · unfold FL
      rw [SH_at hq, flat_at, cE]
      simp only [List.append_assoc]
    · intro e he
      rcases List.mem_append.mp he with z | z
      · exact pA e z
      · exact c1 e z
    · intro e he
      rcases List.mem_append.mp he with z | z
      · exact c2 e z
      · exact Int32.not_lt.mpr (Int32.le_of_lt (pB e z))
    · rw [eR, List.length_append, mapR_len]
      rfl
    · intro c hc
      rw [eC] at hc
      by_cases hcond : bel x (lvs x r q) k < xls x (lvs x r q) ∧ nI (xlk x (lvs x r q * 5 + bel x (lvs x r q) k)) = k
      · rw [if_pos hcond] at hc
        cases hc
        refine ⟨hcond.2, ?_⟩
        rw [mapR_at (q := 0) (fun j => ent x (lvs x r q) (bel x (lvs x r q) k + j)) (show 0 < xls x (lvs x r q) - bel x (lvs x r q) k by omega)]
        exact ⟨_, rfl⟩
      · rw [if_neg hcond] at hc
        cases hc
    · intro hc e he ek
      rw [eC] at hc
      by_cases hcond : bel x (lvs x r q) k < xls x (lvs x r q) ∧ nI (xlk x (lvs x r q * 5 + bel x (lvs x r q) k)) = k
      · rw [if_pos hcond] at hc
        cases hc
      · rcases List.mem_append.mp he with z | z
        · obtain ⟨j, hj, rfl⟩ := mapR_mem.mp z
          refine hcond ⟨by omega, ?_⟩
          rcases Nat.eq_zero_or_pos j with z0 | z0
          · rw [z0] at ek; exact ek
          · exfalso
            have hlt := EL_srt hsE (show bel x (lvs x r q) k < bel x (lvs x r q) k + j by omega) (by omega)
            have h5 := (nI_lt32 (hB.2.2.1 _) (hB.2.2.1 _)).mpr hlt
            have h6 : nI (xlk x (lvs x r q * 5 + (bel x (lvs x r q) k + j))) = k := ek
            rw [h6] at h5
            exact bel_ge x (lvs x r q) k (by omega) h5
        · have := pB e z
          rw [ek] at this
          exact Int32.lt_irrefl this
end
section
/-! putting a key into a leaf; splitting a leaf -/
theorem mapR_take {α : Type} {n q : Nat} (g : Nat → α) (h : q ≤ n) : (mapR n g).take q = mapR q g := by
  rw [mapR_cut g h, List.take_append_of_le_length (by rw [mapR_len]; exact Nat.le_refl _), List.take_of_length_le (by rw [mapR_len]; exact Nat.le_refl _)]
theorem mapR_drop {α : Type} {n q : Nat} (g : Nat → α) (h : q < n) : (mapR n g).drop (q + 1) = mapR (n - 1 - q) (fun i => g (q + 1 + i)) := by
  rw [mapR_cut g (show q + 1 ≤ n from h), List.drop_append_of_le_length (by rw [mapR_len]; exact Nat.le_refl _), List.drop_of_length_le (by rw [mapR_len]; exact Nat.le_refl _), show n - (q + 1) = n - 1 - q by omega]
  rfl
theorem take_mid {α : Type} {A B : List α} {E : α} {q : Nat} (h : A.length = q) : (A ++ E :: B).take (q + 1) = A ++ [E] := by
  subst h
  rw [List.take_append, List.take_of_length_le (Nat.le_succ _), show A.length + 1 - A.length = 1 by omega]
  rfl
theorem drop_mid {α : Type} {A B : List α} {E : α} {q : Nat} (h : A.length = q) : (A ++ E :: B).drop (q + 1) = B := by
  subst h
  rw [List.drop_append, List.drop_of_length_le (Nat.le_succ _), show A.length + 1 - A.length = 1 by omega]
  rfl
theorem SH_take {x : St} {r q : Nat} (h : q < xrs x r) : mapR q (fun i => EL x (lvs x r i)) = (SH x r).take q := (mapR_take (fun i => EL x (lvs x r i)) (Nat.le_of_lt h)).symm
theorem SH_drop {x : St} {r q : Nat} (h : q < xrs x r) : mapR (xrs x r - 1 - q) (fun i => EL x (lvs x r (q + 1 + i))) = (SH x r).drop (q + 1) := (mapR_drop (fun i => EL x (lvs x r i)) h).symm
theorem SH_td {x : St} {r q : Nat} (h : q < xrs x r) : SH x r = (SH x r).take q ++ EL x (lvs x r q) :: (SH x r).drop (q + 1) := by
  rw [← SH_take h, ← SH_drop h]
  exact SH_at h
def WFp (S : List (List (Nat × Int32))) : Prop := S.length ≤ 16 ∧ (∀ E ∈ S, E.length ≤ 4) ∧ (2 ≤ S.length → ∀ E ∈ S, 2 ≤ E.length)
def PlS (S : List (List (Nat × Int32))) (q : Nat) (k : Int32) : Prop := (∀ e ∈ (S.take q).flatten, nI e.1 < k) ∧ ∀ e ∈ (S.drop (q + 1)).flatten, k < nI e.1
theorem WFs.p {S : List (List (Nat × Int32))} (h : WFs S) : WFp S := ⟨h.1, fun E hE => (h.2.1 E hE).2, h.2.2.1⟩
theorem put_wf {A B : List (List (Nat × Int32))} {E E' : List (Nat × Int32)} (h : WFp (A ++ E :: B)) (h1 : E.length ≤ E'.length) (h2 : 1 ≤ E'.length) (h4 : E'.length ≤ 4) (hs : srt (A ++ E' :: B).flatten) : WFs (A ++ E' :: B) := by
  obtain ⟨a1, a2, a3⟩ := h
  have el : (A ++ E' :: B).length = (A ++ E :: B).length := by simp only [List.length_append, List.length_cons]
  have hmem : ∀ F, F ∈ A ++ E' :: B → F = E' ∨ (F ∈ A ++ E :: B ∧ (F ∈ A ∨ F ∈ B)) := by
    intro F hF
    rcases List.mem_append.mp hF with z | z
    · exact Or.inr ⟨List.mem_append_left _ z, Or.inl z⟩
    · rcases List.mem_cons.mp z with z | z
      · exact Or.inl z
      · exact Or.inr ⟨List.mem_append_right _ (List.mem_cons_of_mem _ z), Or.inr z⟩
  have hbig : ∀ F, F ∈ A ∨ F ∈ B → 2 ≤ (A ++ E :: B).length := by
    intro F hF
    simp only [List.length_append, List.length_cons]
    rcases hF with z | z
    · have := List.length_pos_of_mem z; omega
    · have := List.length_pos_of_mem z; omega
  refine ⟨by rw [el]; exact a1, fun F hF => ?_, fun hl F hF => ?_, hs⟩
  · rcases hmem F hF with z | ⟨z, z2⟩
    · rw [z]; exact ⟨h2, h4⟩
    · have := a3 (hbig F z2) F z
      exact ⟨by omega, a2 F z⟩
  · rw [el] at hl
    rcases hmem F hF with z | ⟨z, z2⟩
    · rw [z]
      exact Nat.le_trans (a3 hl E (List.mem_append_right _ List.mem_cons_self)) h1
    · exact a3 hl F z
theorem flat_ge {S : List (List (Nat × Int32))} : (∀ E ∈ S, 2 ≤ E.length) → 2 * S.length ≤ S.flatten.length := by
  induction S with
  | nil => intro _; exact Nat.le_refl _
  | cons E S ih =>
    intro h
    have h1 := h E List.mem_cons_self
    have h2 := ih (fun F hF => h F (List.mem_cons_of_mem _ hF))
    rw [List.flatten_cons, List.length_append, List.length_cons]
    omega
theorem split_wf {A B : List (List (Nat × Int32))} {E E1 E2 : List (Nat × Int32)} (h : WFp (A ++ E :: B)) (h1 : E1.length = 3) (h2 : E2.length = 2) (hs : srt (A ++ E1 :: E2 :: B).flatten) (hk : ∀ e ∈ (A ++ E1 :: E2 :: B).flatten, e.1 < 32) : WFs (A ++ E1 :: E2 :: B) := by
  obtain ⟨a1, a2, a3⟩ := h
  have hbig : ∀ F, F ∈ A ∨ F ∈ B → 2 ≤ (A ++ E :: B).length := by
    intro F hF
    simp only [List.length_append, List.length_cons]
    rcases hF with z | z
    · have := List.length_pos_of_mem z; omega
    · have := List.length_pos_of_mem z; omega
  have hall : ∀ F, F ∈ A ++ E1 :: E2 :: B → 2 ≤ F.length ∧ F.length ≤ 4 := by
    intro F hF
    rcases List.mem_append.mp hF with z | z
    · exact ⟨a3 (hbig F (Or.inl z)) F (List.mem_append_left _ z), a2 F (List.mem_append_left _ z)⟩
    · rcases List.mem_cons.mp z with z | z
      · rw [z]; omega
      · rcases List.mem_cons.mp z with z | z
        · rw [z]; omega
        · have z2 : F ∈ A ++ E :: B := List.mem_append_right _ (List.mem_cons_of_mem _ z)
          exact ⟨a3 (hbig F (Or.inr z)) F z2, a2 F z2⟩
  have h5 := flat_ge (fun F hF => (hall F hF).1)
  have h6 := srt_len32 hs hk
  exact ⟨by omega, fun F hF => ⟨by have := (hall F hF).1; omega, (hall F hF).2⟩, fun _ F hF => (hall F hF).1, hs⟩
theorem INV_of {x : St} (hC : CI x) (hO : OI x) (hW : WF x (xwk x)) : INV x := by
  refine ⟨hC, fun r hr hl => ?_⟩
  by_cases e : r = xwk x
  · rw [e]; exact hW
  · exact hO r hr e hl
theorem INV.oi {x : St} (h : INV x) : OI x := fun r hr _ hl => h.2 r hr hl
def putN (x : St) (lf i K : Nat) (v : Int32) : St := slv (slk (sls x (updN (xls x) lf (xls x lf + 1))) (updN (shU (xlk x) (lf * 5 + i) (lf * 5 + xls x lf)) (lf * 5 + i) K)) (upd (shU (xlv x) (lf * 5 + i) (lf * 5 + xls x lf)) (lf * 5 + i) v)
def putO (x : St) (lf i : Nat) (v : Int32) : St := slv (slk (sls x (xls x)) (xlk x)) (upd (xlv x) (lf * 5 + i) v)
theorem putN_EL {x : St} {lf i K : Nat} {v : Int32} (hi : i ≤ xls x lf) : EL (putN x lf i K v) lf = mapR i (ent x lf) ++ (K, v) :: mapR (xls x lf - i) (fun j => ent x lf (i + j)) := by
  unfold EL
  rw [show xls (putN x lf i K v) lf = xls x lf + 1 from updN_at _ _ _]
  have eE : ∀ j, ent (putN x lf i K v) lf j = (updN (shU (xlk x) (lf * 5 + i) (lf * 5 + xls x lf)) (lf * 5 + i) K (lf * 5 + j), upd (shU (xlv x) (lf * 5 + i) (lf * 5 + xls x lf)) (lf * 5 + i) v (lf * 5 + j)) := fun _ => rfl
  refine mapR_ins hi (fun j hj => ?_) ?_ (fun j hj => ?_)
  · rw [eE, updN_ne (by omega), upd_ne (by omega), shU_lo _ (by omega), shU_lo _ (by omega)]
    rfl
  · rw [eE, updN_at, upd_at]
  · rw [eE, updN_ne (by omega), upd_ne (by omega)]
    unfold shU ent
    rw [if_pos (by omega), if_pos (by omega), show lf * 5 + (i + 1 + j) - 1 = lf * 5 + (i + j) by omega]
theorem putO_EL {x : St} {lf i : Nat} {v : Int32} (hi : i < xls x lf) : EL (putO x lf i v) lf = mapR i (ent x lf) ++ (xlk x (lf * 5 + i), v) :: mapR (xls x lf - 1 - i) (fun j => ent x lf (i + 1 + j)) := by
  unfold EL
  refine mapR_set hi (fun j hj e => ?_) ?_
  · show (xlk x (lf * 5 + j), upd (xlv x) (lf * 5 + i) v (lf * 5 + j)) = ent x lf j
    rw [upd_ne (by omega)]
    rfl
  · show (xlk x (lf * 5 + i), upd (xlv x) (lf * 5 + i) v (lf * 5 + i)) = _
    rw [upd_at]
/-- a new key in an owned leaf -/
theorem P_putN {x : St} {q K : Nat} {v : Int32} (hC : CI x) (hO : OI x) (h1 : xru x (xwk x) = 1) (hq : q < xrs x (xwk x)) (hl : xlu x (lvs x (xwk x) q) = 1) (h4 : xls x (lvs x (xwk x) q) ≤ 4) (hK : K < 32) (hs : srt (FL x (xwk x))) (hP : PlS (SH x (xwk x)) q (nI K)) (hnew : bel x (lvs x (xwk x) q) (nI K) < xls x (lvs x (xwk x) q) → nI (xlk x (lvs x (xwk x) q * 5 + bel x (lvs x (xwk x) q) (nI K))) ≠ nI K) :
    CI (putN x (lvs x (xwk x) q) (bel x (lvs x (xwk x) q) (nI K)) K v) ∧ OI (putN x (lvs x (xwk x) q) (bel x (lvs x (xwk x) q) (nI K)) K v) ∧ VV x (putN x (lvs x (xwk x) q) (bel x (lvs x (xwk x) q) (nI K)) K v) ∧ PutR (FL x (xwk x)) (FL (putN x (lvs x (xwk x) q) (bel x (lvs x (xwk x) q) (nI K)) K v) (xwk x)) K v ∧ SH (putN x (lvs x (xwk x) q) (bel x (lvs x (xwk x) q) (nI K)) K v) (xwk x) = (SH x (xwk x)).take q ++ EL (putN x (lvs x (xwk x) q) (bel x (lvs x (xwk x) q) (nI K)) K v) (lvs x (xwk x) q) :: (SH x (xwk x)).drop (q + 1) := by
  have hB := hC.1
  have hbl := bel_le x (lvs x (xwk x) q) (nI K)
  obtain ⟨m1, m2, m3, m4⟩ := P_mod (S := updN (xls x) (lvs x (xwk x) q) (xls x (lvs x (xwk x) q) + 1)) (K := updN (shU (xlk x) (lvs x (xwk x) q * 5 + bel x (lvs x (xwk x) q) (nI K)) (lvs x (xwk x) q * 5 + xls x (lvs x (xwk x) q))) (lvs x (xwk x) q * 5 + bel x (lvs x (xwk x) q) (nI K)) K) (V := upd (shU (xlv x) (lvs x (xwk x) q * 5 + bel x (lvs x (xwk x) q) (nI K)) (lvs x (xwk x) q * 5 + xls x (lvs x (xwk x) q))) (lvs x (xwk x) q * 5 + bel x (lvs x (xwk x) q) (nI K)) v) hC hO h1 hq hl (fun j e => updN_ne e) (fun c hc => by
    rw [updN_ne (by omega), upd_ne (by omega)]
    unfold shU
    rw [if_neg (by omega), if_neg (by omega)]
    exact ⟨rfl, rfl⟩) (updN_le hB.2.1 (by omega)) (updN_lt (shU_lt hB.2.2.1) hK)
  rw [SH_take hq, SH_drop hq] at m4
  refine ⟨m1, m2, m3, ?_, m4⟩
  have hs2 := hs
  unfold FL at hs2
  rw [SH_td hq, flat_at] at hs2
  have hsE := (srt_app.mp (srt_app.mp hs2).2.1).1
  obtain ⟨cE, c1, c2⟩ := leaf_cut hB hsE (nI K)
  refine ⟨((SH x (xwk x)).take q).flatten ++ mapR (bel x (lvs x (xwk x) q) (nI K)) (ent x (lvs x (xwk x) q)), mapR (xls x (lvs x (xwk x) q) - bel x (lvs x (xwk x) q) (nI K)) (fun j => ent x (lvs x (xwk x) q) (bel x (lvs x (xwk x) q) (nI K) + j)) ++ ((SH x (xwk x)).drop (q + 1)).flatten, ?_, ?_, ?_, Or.inl ?_⟩
  · show (SH (putN x (lvs x (xwk x) q) (bel x (lvs x (xwk x) q) (nI K)) K v) (xwk x)).flatten = _
    rw [show SH (putN x (lvs x (xwk x) q) (bel x (lvs x (xwk x) q) (nI K)) K v) (xwk x) = (SH x (xwk x)).take q ++ EL (putN x (lvs x (xwk x) q) (bel x (lvs x (xwk x) q) (nI K)) K v) (lvs x (xwk x) q) :: (SH x (xwk x)).drop (q + 1) from m4, flat_at, putN_EL hbl]
    simp only [List.append_assoc, List.cons_append]
  · intro e he
    have he32 : e.1 < 32 := by
      rcases List.mem_append.mp he with z | z
      · obtain ⟨F, hF, z⟩ := List.mem_flatten.mp z
        obtain ⟨i, -, rfl⟩ := SH_mem.mp (List.mem_of_mem_take hF)
        exact EL_k32 hB z
      · obtain ⟨i, hi, rfl⟩ := mapR_mem.mp z
        exact hB.2.2.1 _
    refine (nI_lt32 he32 hK).mp ?_
    rcases List.mem_append.mp he with z | z
    · exact hP.1 e z
    · exact c1 e z
  · intro e he
    rcases List.mem_append.mp he with z | z
    · obtain ⟨j, hj, rfl⟩ := mapR_mem.mp z
      have hb1 := bel_ge x (lvs x (xwk x) q) (nI K) (by omega)
      have hb2 := hnew (by omega)
      have hk0 : xlk x (lvs x (xwk x) q * 5 + bel x (lvs x (xwk x) q) (nI K)) < 32 := hB.2.2.1 _
      have hgt : K < xlk x (lvs x (xwk x) q * 5 + bel x (lvs x (xwk x) q) (nI K)) := by
        rcases Nat.lt_trichotomy (xlk x (lvs x (xwk x) q * 5 + bel x (lvs x (xwk x) q) (nI K))) K with y | y | y
        · exact absurd ((nI_lt32 hk0 hK).mpr y) hb1
        · exact absurd (by rw [y]) hb2
        · exact y
      rcases Nat.eq_zero_or_pos j with z0 | z0
      · subst z0; exact hgt
      · exact Nat.lt_trans hgt (EL_srt hsE (show bel x (lvs x (xwk x) q) (nI K) < bel x (lvs x (xwk x) q) (nI K) + j by omega) (by omega))
    · have h9 := hP.2 e z
      obtain ⟨F, hF, z⟩ := List.mem_flatten.mp z
      obtain ⟨i, -, rfl⟩ := SH_mem.mp (List.mem_of_mem_drop hF)
      exact (nI_lt32 hK (EL_k32 hB z)).mp h9
  · show (SH x (xwk x)).flatten = _
    conv => lhs; rw [SH_td hq, flat_at, cE]
    simp only [List.append_assoc]
/-- a value for a key that an owned leaf has -/
theorem P_putO {x : St} {q K : Nat} {v : Int32} (hC : CI x) (hO : OI x) (h1 : xru x (xwk x) = 1) (hq : q < xrs x (xwk x)) (hl : xlu x (lvs x (xwk x) q) = 1) (hK : K < 32) (hs : srt (FL x (xwk x))) (hi : bel x (lvs x (xwk x) q) (nI K) < xls x (lvs x (xwk x) q)) (hold : nI (xlk x (lvs x (xwk x) q * 5 + bel x (lvs x (xwk x) q) (nI K))) = nI K) :
    CI (putO x (lvs x (xwk x) q) (bel x (lvs x (xwk x) q) (nI K)) v) ∧ OI (putO x (lvs x (xwk x) q) (bel x (lvs x (xwk x) q) (nI K)) v) ∧ VV x (putO x (lvs x (xwk x) q) (bel x (lvs x (xwk x) q) (nI K)) v) ∧ PutR (FL x (xwk x)) (FL (putO x (lvs x (xwk x) q) (bel x (lvs x (xwk x) q) (nI K)) v) (xwk x)) K v ∧ SH (putO x (lvs x (xwk x) q) (bel x (lvs x (xwk x) q) (nI K)) v) (xwk x) = (SH x (xwk x)).take q ++ EL (putO x (lvs x (xwk x) q) (bel x (lvs x (xwk x) q) (nI K)) v) (lvs x (xwk x) q) :: (SH x (xwk x)).drop (q + 1) := by
  have hB := hC.1
  have h5 := hB.2.1 (lvs x (xwk x) q)
  obtain ⟨m1, m2, m3, m4⟩ := P_mod (S := xls x) (K := xlk x) (V := upd (xlv x) (lvs x (xwk x) q * 5 + bel x (lvs x (xwk x) q) (nI K)) v) hC hO h1 hq hl (fun j e => rfl) (fun c hc => ⟨rfl, upd_ne (by omega)⟩) hB.2.1 hB.2.2.1
  rw [SH_take hq, SH_drop hq] at m4
  refine ⟨m1, m2, m3, ?_, m4⟩
  have hk : xlk x (lvs x (xwk x) q * 5 + bel x (lvs x (xwk x) q) (nI K)) = K := (nI_eq (by have := hB.2.2.1 (lvs x (xwk x) q * 5 + bel x (lvs x (xwk x) q) (nI K)); omega) (by omega)).mp hold
  have eF : FL x (xwk x) = (((SH x (xwk x)).take q).flatten ++ mapR (bel x (lvs x (xwk x) q) (nI K)) (ent x (lvs x (xwk x) q))) ++ (K, xlv x (lvs x (xwk x) q * 5 + bel x (lvs x (xwk x) q) (nI K))) :: (mapR (xls x (lvs x (xwk x) q) - 1 - bel x (lvs x (xwk x) q) (nI K)) (fun j => ent x (lvs x (xwk x) q) (bel x (lvs x (xwk x) q) (nI K) + 1 + j)) ++ ((SH x (xwk x)).drop (q + 1)).flatten) := by
    show (SH x (xwk x)).flatten = _
    conv => lhs; rw [SH_td hq, flat_at]
    rw [show EL x (lvs x (xwk x) q) = mapR (bel x (lvs x (xwk x) q) (nI K)) (ent x (lvs x (xwk x) q)) ++ ent x (lvs x (xwk x) q) (bel x (lvs x (xwk x) q) (nI K)) :: mapR (xls x (lvs x (xwk x) q) - 1 - bel x (lvs x (xwk x) q) (nI K)) (fun j => ent x (lvs x (xwk x) q) (bel x (lvs x (xwk x) q) (nI K) + 1 + j)) from mapR_at _ hi]
    unfold ent
    rw [hk]
    simp only [List.append_assoc, List.cons_append]
  have hs2 := hs
  rw [eF] at hs2
  obtain ⟨s1, s2, s3⟩ := srt_app.mp hs2
  refine ⟨_, _, ?_, fun e he => s3 e he _ List.mem_cons_self, (srt_cons.mp s2).1, Or.inr ⟨_, eF⟩⟩
  show (SH (putO x (lvs x (xwk x) q) (bel x (lvs x (xwk x) q) (nI K)) v) (xwk x)).flatten = _
  rw [show SH (putO x (lvs x (xwk x) q) (bel x (lvs x (xwk x) q) (nI K)) v) (xwk x) = (SH x (xwk x)).take q ++ EL (putO x (lvs x (xwk x) q) (bel x (lvs x (xwk x) q) (nI K)) v) (lvs x (xwk x) q) :: (SH x (xwk x)).drop (q + 1) from m4, flat_at, putO_EL hi, hk]
  simp only [List.append_assoc, List.cons_append]
theorem P_split {x : St} {q f : Nat} (hC : CI x) (hO : OI x) (h1 : xru x (xwk x) = 1) (hq : q < xrs x (xwk x)) (hl : xlu x (lvs x (xwk x) q) = 1) (h5 : xls x (lvs x (xwk x) q) = 5) (hs : xrs x (xwk x) ≤ 16) (hf : f < 96) (h0 : xlu x f = 0) :
    CI (splS x q (lvs x (xwk x) q) f) ∧ OI (splS x q (lvs x (xwk x) q) f) ∧ VV x (splS x q (lvs x (xwk x) q) f) ∧ SH (splS x q (lvs x (xwk x) q) f) (xwk x) = (SH x (xwk x)).take q ++ mapR 3 (ent x (lvs x (xwk x) q)) :: mapR 2 (fun i => ent x (lvs x (xwk x) q) (3 + i)) :: (SH x (xwk x)).drop (q + 1) := by
  have hB := hC.1
  have hne : lvs x (xwk x) q ≠ f := fun e => by rw [e] at hl; omega
  have ho96 := lvs_lt hB (xwk x) q
  obtain ⟨m1, m2, m3, m4⟩ := P_mod (S := updN (xls x) (lvs x (xwk x) q) 3) (K := xlk x) (V := xlv x) hC hO h1 hq hl (fun j e => updN_ne e) (fun c hc => ⟨rfl, rfl⟩) (updN_le hB.2.1 (by decide)) hB.2.2.1
  rw [SH_take hq, SH_drop hq] at m4
  generalize hx' : slv (slk (sls x (updN (xls x) (lvs x (xwk x) q) 3)) (xlk x)) (xlv x) = x' at m1 m2 m3 m4
  have xwk' : xwk x' = xwk x := by rw [← hx']
  have xru' : xru x' = xru x := by rw [← hx']
  have xrs' : xrs x' = xrs x := by rw [← hx']
  have xlu' : xlu x' = xlu x := by rw [← hx']
  have xlv' : ∀ i, lvs x' (xwk x) i = lvs x (xwk x) i := fun i => by rw [← hx']; rfl
  have xls' : xls x' = updN (xls x) (lvs x (xwk x) q) 3 := by rw [← hx']
  have xlk' : xlk x' = xlk x := by rw [← hx']
  have xlvv : xlv x' = xlv x := by rw [← hx']
  have eL : EL x' (lvs x (xwk x) q) = mapR 3 (ent x (lvs x (xwk x) q)) := by
    rw [← hx']
    unfold EL
    rw [show xls (slv (slk (sls x (updN (xls x) (lvs x (xwk x) q) 3)) (xlk x)) (xlv x)) (lvs x (xwk x) q) = 3 from updN_at _ _ _]
    rfl
  have hz : ∃ z, z = slu (slv (slk (sls x' (updN (updN (xls x) f 2) (lvs x (xwk x) q) 3)) (updN (updN (xlk x) (f * 5 + 0) (xlk x (lvs x (xwk x) q * 5 + 3))) (f * 5 + 1) (updN (xlk x) (f * 5 + 0) (xlk x (lvs x (xwk x) q * 5 + 3)) (lvs x (xwk x) q * 5 + 4)))) (upd (upd (xlv x) (f * 5 + 0) (xlv x (lvs x (xwk x) q * 5 + 3))) (f * 5 + 1) (upd (xlv x) (f * 5 + 0) (xlv x (lvs x (xwk x) q * 5 + 3)) (lvs x (xwk x) q * 5 + 4)))) (updN (xlu x') f 1) := ⟨_, rfl⟩
  obtain ⟨z, hz⟩ := hz
  have espl : splS x q (lvs x (xwk x) q) f = insL z (q + 1) f := by
    rw [hz, ← hx']
    rfl
  obtain ⟨i1, i2, i3, i4, -, -, -⟩ := P_ins (q := q + 1) (f := f) m1 m2 (by rw [xru', xwk']; exact h1) (by rw [xrs', xwk']; exact hq) (by rw [xrs', xwk']; exact hs) hf (by rw [xlu']; exact h0) (fun j e => by
      rw [xls']
      by_cases e2 : j = lvs x (xwk x) q
      · rw [e2, updN_at, updN_at]
      · rw [updN_ne e2, updN_ne e2, updN_ne e]) (fun c hc => by
      rw [xlk', xlvv]
      rw [updN_ne (by omega), updN_ne (by omega), upd_ne (by omega), upd_ne (by omega)]
      exact ⟨rfl, rfl⟩) (updN_le (updN_le hB.2.1 (by decide)) (by decide)) (updN_lt (updN_lt hB.2.2.1 (hB.2.2.1 _)) (updN_lt hB.2.2.1 (hB.2.2.1 _) _)) z hz
  rw [espl]
  refine ⟨i1, i2, VV.trans m3 i3, ?_⟩
  rw [xwk', xrs'] at i4
  rw [i4]
  have eZ : EL z f = mapR 2 (fun i => ent x (lvs x (xwk x) q) (3 + i)) := by
    unfold EL
    have e1 : xls z f = 2 := by
      rw [hz]
      show updN (updN (xls x) f 2) (lvs x (xwk x) q) 3 f = 2
      rw [updN_ne (fun e => hne e.symm), updN_at]
    rw [e1]
    refine mapR_congr (fun i hi => ?_)
    rw [hz]
    show (updN (updN (xlk x) (f * 5 + 0) (xlk x (lvs x (xwk x) q * 5 + 3))) (f * 5 + 1) (updN (xlk x) (f * 5 + 0) (xlk x (lvs x (xwk x) q * 5 + 3)) (lvs x (xwk x) q * 5 + 4)) (f * 5 + i), upd (upd (xlv x) (f * 5 + 0) (xlv x (lvs x (xwk x) q * 5 + 3))) (f * 5 + 1) (upd (xlv x) (f * 5 + 0) (xlv x (lvs x (xwk x) q * 5 + 3)) (lvs x (xwk x) q * 5 + 4)) (f * 5 + i)) = (xlk x (lvs x (xwk x) q * 5 + (3 + i)), xlv x (lvs x (xwk x) q * 5 + (3 + i)))
    rcases (show i = 0 ∨ i = 1 by omega) with e | e
    · subst e
      rw [updN_ne (by omega), updN_at, upd_ne (by omega), upd_at]
    · subst e
      rw [updN_at, upd_at, updN_ne (by omega), upd_ne (by omega)]
  rw [eZ]
  have e2 : mapR (q + 1) (fun i => EL x' (lvs x' (xwk x) i)) ++ mapR 2 (fun i => ent x (lvs x (xwk x) q) (3 + i)) :: mapR (xrs x (xwk x) - (q + 1)) (fun i => EL x' (lvs x' (xwk x) (q + 1 + i))) = (SH x' (xwk x)).take (q + 1) ++ mapR 2 (fun i => ent x (lvs x (xwk x) q) (3 + i)) :: (SH x' (xwk x)).drop (q + 1) := by
    unfold SH
    rw [xrs', mapR_take _ (show q + 1 ≤ xrs x (xwk x) from hq), mapR_drop _ hq, show xrs x (xwk x) - (q + 1) = xrs x (xwk x) - 1 - q by omega]
  rw [e2, m4, eL]
  have hlen : ((SH x (xwk x)).take q).length = q := by rw [List.length_take, SH_len]; omega
  rw [take_mid hlen, drop_mid hlen]
  simp only [List.append_assoc, List.cons_append, List.nil_append]
end
section
set_option maxRecDepth 100000
section WALK8
variable {l : Launch} {D : va_G} {ad : Nat → Nat} {dB dI : ClassId}
theorem t_ownRoot (x : St) (h : INV x) : TMv l yX0_ownRoot cX0_ownRoot 5 1 D (tyT dB dI) [.ref (ad 0)] (wT ad dB dI x) (wT ad dB dI) (fun u => INV u ∧ VV x u ∧ xru u (xwk u) = 1 ∧ SH u (xwk u) = SH x (xwk x)) := by
  by_cases h1 : xru x (xwk x) = 1
  · exact t_ownRootA x ⟨h, VV.refl x, h1, rfl⟩ h.1.1 h1
  · have h2 : 2 ≤ xru x (xwk x) := by have := wk_live h.1; omega
    obtain ⟨f, hf, h0, hm⟩ := freshR h.1
    refine t_ownRootB x f (P_ownR h h2 hf h0) h.1.1 hf h0 hm h2 (fun v => ?_)
    rcases Nat.lt_or_ge v 96 with hv | hv
    · have h3 := lu_le h.1 hv
      have h4 := cntp_le (lvs x (xwk x)) v (xrs x (xwk x))
      have h5 := h.1.1.2.2.2.2.1 (xwk x)
      omega
    · have h3 := h.1.1.1 v
      have h4 : cntp (lvs x (xwk x)) (xrs x (xwk x)) v = 0 := cntp_none (fun i _ e => by have := lvs_lt h.1.1 (xwk x) i; omega)
      omega
def OwnL (x : St) (q : Nat) (a : Int32) (u : St) : Prop := a = nI (lvs u (xwk u) q) ∧ CI u ∧ OI u ∧ VV x u ∧ xwk u = xwk x ∧ xru u = xru x ∧ xrs u = xrs x ∧ xlu u (lvs u (xwk u) q) = 1 ∧ SH u (xwk u) = SH x (xwk x) ∧ (∀ i, i < 17 → i ≠ q → lvs u (xwk u) i = lvs x (xwk x) i) ∧ (∀ v, v ≠ lvs u (xwk u) q → v ≠ lvs x (xwk x) q → xlu u v = xlu x v)
theorem t_ownLeaf (x : St) (q : Nat) (hC : CI x) (hO : OI x) (h1 : xru x (xwk x) = 1) (hq : q < xrs x (xwk x)) : TMi l yX0_ownLeaf cX0_ownLeaf 5 (some .int) 1 D (tyT dB dI) [.ref (ad 0), .int (nI q)] (wT ad dB dI x) (wT ad dB dI) (OwnL x q) := by
  have hn := hC.1.2.2.2.2.1 (xwk x)
  by_cases h2 : xlu x (lvs x (xwk x) q) = 1
  · exact t_ownLeafA x q ⟨rfl, hC, hO, VV.refl x, rfl, rfl, rfl, h2, rfl, fun _ _ _ => rfl, fun _ _ _ => rfl⟩ hC.1 (by omega) h2
  · obtain ⟨f, hf, h0, hm⟩ := freshL hC
    have h3 : 2 ≤ xlu x (lvs x (xwk x) q) := by
      have h4 : 1 ≤ xlu x (lvs x (xwk x) q) := (P_drp hC hO h1 hq).2.2.2.1
      omega
    obtain ⟨p1, p2, p3, p4, p5, p6, p7, p8⟩ := P_ownL hC hO h1 hq hf h0 h3
    have p5' : lvs (ownL x q f) (xwk (ownL x q f)) q = f := p5
    refine t_ownLeafB x q f ⟨by rw [p5'], p1, p2, p3, rfl, rfl, rfl, by rw [p5']; exact p4, p6, p7, fun v e1 e2 => p8 v (by rw [p5'] at e1; exact e1) e2⟩ hC.1 (by omega) hf h0 hm h3
theorem t_put (x : St) (k v : Int32) (h : INV x) : TMi l yX0_put cX0_put 7 (some .boolean) 2 D (tyT dB dI) [.ref (ad 0), .int k, .int v] (wT ad dB dI x) (wT ad dB dI) (fun a u => (a = 0 ∧ (k < 0 ∨ nI 31 < k) ∧ u = x) ∨ (a = 1 ∧ ∃ K, K < 32 ∧ k = nI K ∧ INV u ∧ VV x u ∧ PutR (FL x (xwk x)) (FL u (xwk u)) K v)) := by
  refine TMi.of (by decide) (Nat.le_of_ble_eq_true rfl) (fun p e s m below meth c A C => ?_)
  refine tw_iload_n C dX0_put_0 rfl ?_
  refine tw_if_lt C 10 dX0_put_1 (by decide)  (fun hk0 => ?_) (fun hk0 => ?_)
  · refine tw_iconst C (nI 0) dX0_put_10 (by decide) ?_
    exact tw_iret C x dX0_put_11 rfl rfl (Or.inl ⟨rfl, Or.inl hk0, rfl⟩)
  refine tw_iload_n C dX0_put_4 rfl ?_
  refine tw_bipush C (nI 32) dX0_put_5 (by decide) ?_
  refine tw_icmp_lt C 12 dX0_put_7 (by decide)  (fun hk1 => ?_) (fun hk1 => ?_)
  rotate_left
  · refine tw_iconst C (nI 0) dX0_put_10 (by decide) ?_
    refine tw_iret C x dX0_put_11 rfl rfl (Or.inl ⟨rfl, Or.inr ?_, rfl⟩)
    exact Int32.lt_of_lt_of_le (show nI 31 < nI 32 by decide) (Int32.not_lt.mp hk1)
  obtain ⟨K, hK, rfl⟩ := nI_of hk0
  have hK2 : K < 32 := (nI_ltI hK (by decide)).mp hk1
  have key : ∀ (x2 : St) (q : Nat), CI x2 → OI x2 → xru x2 (xwk x2) = 1 → q < xrs x2 (xwk x2) → VV x x2 → WFp (SH x2 (xwk x2)) → srt (FL x2 (xwk x2)) → FL x2 (xwk x2) = FL x (xwk x) → PlS (SH x2 (xwk x2)) q (nI K) → TW p l e (rmD 2) s m [Value.ref (ad 0), .int (nI K), .int v].toArray below meth c 0 0 (MQ below (va_Qi (fun a u => (a = 0 ∧ (nI K < 0 ∨ nI 31 < nI K) ∧ u = x) ∨ (a = 1 ∧ ∃ K_1, K_1 < 32 ∧ nI K = nI K_1 ∧ INV u ∧ VV x u ∧ PutR (FL x (xwk x)) (FL u (xwk u)) K_1 v)) (Bq D (tyT dB dI) A (wT ad dB dI)) A) [Value.ref (ad 0), .int (nI K), .int v].toArray s 0 0 A) D A 7 (wT ad dB dI x2) 45 [(0, .ref (ad 0)), (1, .int (nI K)), (2, .int v), (3, .int (nI q))] [] := by
    intro x2 q hC hO h1 hq hV hW hs hF hP
    refine tw_aload_n C dX0_put_45 rfl ?_
    refine tw_iload_n C dX0_put_46 rfl ?_
    refine tt_calli1 C (t_ownLeaf x2 q hC hO h1 hq) rfl q96 q98 qs6 q99 (by decide +kernel) (by decide) (by decide) (Nat.le_of_ble_eq_true rfl) dX0_put_47  (fun a x3 h3 => ?_)
    obtain ⟨rfl, hC3, hO3, hV3, e1, e2, e3, hl3, e4, -, -⟩ := h3
    rw [← e4] at hW hP
    have hs3 : srt (FL x3 (xwk x3)) := by unfold FL; rw [e4]; exact hs
    have hF3 : FL x3 (xwk x3) = FL x (xwk x) := by rw [← hF]; unfold FL; rw [e4]
    have hV03 := VV.trans hV hV3
    have h13 : xru x3 (xwk x3) = 1 := by rw [e2, e1]; exact h1
    have hq3 : q < xrs x3 (xwk x3) := by rw [e3, e1]; exact hq
    have hrs : xrs x3 (xwk x3) ≤ 16 := by rw [← SH_len]; exact hW.1
    have hB3 := hC3.1
    have hE4 : xls x3 (lvs x3 (xwk x3) q) ≤ 4 := by
      rw [← EL_len]
      exact hW.2.1 _ (SH_mem.mpr ⟨q, hq3, rfl⟩)
    clear e1 e2 e3 e4 hs hF hV hC hO h1 hq hV3
    clear x2
    have hWtd := hW
    rw [SH_td hq3] at hWtd
    have blf := lvs_lt hB3 (xwk x3) q
    have hbl := bel_le x3 (lvs x3 (xwk x3) q) (nI K)
    have aN := @P_putN x3 q K v hC3 hO3 h13 hq3 hl3 hE4 hK2 hs3 hP
    have aO := @P_putO x3 q K v hC3 hO3 h13 hq3 hl3 hK2 hs3
    have eN := @putN_EL x3 (lvs x3 (xwk x3) q) (bel x3 (lvs x3 (xwk x3) q) (nI K)) K v hbl
    have eO := @putO_EL x3 (lvs x3 (xwk x3) q) (bel x3 (lvs x3 (xwk x3) q) (nI K)) v
    have lvN : ∀ i, lvs (putN x3 (lvs x3 (xwk x3) q) (bel x3 (lvs x3 (xwk x3) q) (nI K)) K v) (xwk (putN x3 (lvs x3 (xwk x3) q) (bel x3 (lvs x3 (xwk x3) q) (nI K)) K v)) i = lvs x3 (xwk x3) i := fun _ => rfl
    refine tw_istore C dX0_put_50 (by decide) rfl ?_
    refine tw_aload_n C dX0_put_52 rfl ?_
    refine tw_iload C dX0_put_53 rfl ?_
    refine tw_iload_n C dX0_put_55 rfl ?_
    refine tt_calli2 C (t_below x3 (lvs x3 (xwk x3) q) (nI K) hB3 blf) rfl q104 q106 qs8 q107 (by decide +kernel) (by decide) (by decide) (Nat.le_of_ble_eq_true rfl) dX0_put_56  (fun a z hz => ?_)
    obtain ⟨rfl, rfl⟩ := hz
    generalize hlf : lvs z (xwk z) q = lf at *
    generalize hbi : bel z lf (nI K) = i at *
    have b1 := hB3.2.1 lf
    have fin : ∀ (hnew : i < xls z lf → nI (xlk z (lf * 5 + i)) ≠ nI K), TW p l e (rmD 2) s m [Value.ref (ad 0), .int (nI K), .int v].toArray below meth c 0 0 (MQ below (va_Qi (fun a u => (a = 0 ∧ (nI K < 0 ∨ nI 31 < nI K) ∧ u = x) ∨ (a = 1 ∧ ∃ K_1, K_1 < 32 ∧ nI K = nI K_1 ∧ INV u ∧ VV x u ∧ PutR (FL x (xwk x)) (FL u (xwk u)) K_1 v)) (Bq D (tyT dB dI) A (wT ad dB dI)) A) [Value.ref (ad 0), .int (nI K), .int v].toArray s 0 0 A) D A 7 (wT ad dB dI z) 89 [(0, .ref (ad 0)), (1, .int (nI K)), (2, .int v), (3, .int (nI q)), (4, .int (nI lf)), (5, .int (nI i))] [] := by
      intro hnew
      obtain ⟨n1, n2, n3, n4, n5⟩ := aN hnew
      refine tw_aload_n C dX0_put_89 rfl ?_
      refine tt_get_ls C dX0_put_90 ?_
      refine tw_iload C dX0_put_93 rfl ?_
      refine tt_ld_ls C _ dX0_put_95 (by omega) rfl ?_
      refine tw_istore C dX0_put_96 (by decide) rfl ?_
      refine tt_st (y := slv (slk z (shU (xlk z) (lf * 5 + xls z lf) (lf * 5 + xls z lf))) (shU (xlv z) (lf * 5 + xls z lf) (lf * 5 + xls z lf))) (by rw [shU_0, shU_0]) ?_
      refine tw_loop (fun j => wT ad dB dI (slv (slk z (shU (xlk z) (lf * 5 + j) (lf * 5 + xls z lf))) (shU (xlv z) (lf * 5 + j) (lf * 5 + xls z lf)))) (fun j => [(0, .ref (ad 0)), (1, .int (nI K)), (2, .int v), (3, .int (nI q)), (4, .int (nI lf)), (5, .int (nI i)), (6, .int (nI j))]) (fun j => i ≤ j ∧ j ≤ xls z lf) (fun j => j) ?_ (xls z lf) ⟨hbl, Nat.le_refl _⟩
      intro j hj ih
      obtain ⟨hj1, hj2⟩ := hj
      refine tw_iload C dX0_put_98 rfl ?_
      refine tw_iload C dX0_put_100 rfl ?_
      refine tn_icmp_le C 125 dX0_put_102 (by decide) (by omega) (by omega)  (fun hb => ?_) (fun hb => ?_)
      · have he : j = i := by omega
        subst he
        refine tw_aload_n C dX0_put_125 rfl ?_
        refine tt_get_ls C dX0_put_126 ?_
        refine tw_iload C dX0_put_129 rfl ?_
        refine tw_dup2 C dX0_put_131 rfl rfl ?_
        refine tt_ld_ls C (xls z lf) dX0_put_132 (by omega) rfl ?_
        refine tw_iconst C (nI 1) dX0_put_133 (by decide) ?_
        refine tn_iadd C dX0_put_134 ?_
        refine tn_i2b C dX0_put_135 (by omega) ?_
        refine tt_st_ls C dX0_put_136 (by omega) (by omega) ?_
        refine tw_aload_n C dX0_put_137 rfl ?_
        refine tt_get_lk C dX0_put_138 ?_
        refine tw_iload C dX0_put_141 rfl ?_
        refine tw_iconst C (nI 5) dX0_put_143 (by decide) ?_
        refine tn_imul C dX0_put_144 ?_
        refine tw_iload C dX0_put_145 rfl ?_
        refine tn_iadd C dX0_put_147 ?_
        refine tw_iload_n C dX0_put_148 rfl ?_
        refine tn_i2b C dX0_put_149 (by omega) ?_
        refine tt_st_lk C dX0_put_150 (by omega) (by omega) ?_
        refine tw_aload_n C dX0_put_151 rfl ?_
        refine tt_get_lv C dX0_put_152 ?_
        refine tw_iload C dX0_put_155 rfl ?_
        refine tw_iconst C (nI 5) dX0_put_157 (by decide) ?_
        refine tn_imul C dX0_put_158 ?_
        refine tw_iload C dX0_put_159 rfl ?_
        refine tn_iadd C dX0_put_161 ?_
        refine tw_iload_n C dX0_put_162 rfl ?_
        refine tt_st_lv C dX0_put_163 (by omega) ?_
        refine tw_aload_n C dX0_put_164 rfl ?_
        refine tt_get_ls C dX0_put_165 ?_
        refine tw_iload C dX0_put_168 rfl ?_
        refine tt_ld_ls C (xls z lf + 1) dX0_put_170 (by omega) (updN_at _ _ _) ?_
        refine tw_iconst C (nI 4) dX0_put_171 (by decide) ?_
        refine tt_st (y := putN z lf j K v) rfl ?_
        refine tn_icmp_le C 182 dX0_put_172 (by decide) (by omega) (by omega)  (fun hb4 => ?_) (fun hb4 => ?_)
        · refine tw_iconst C (nI 1) dX0_put_182 (by decide) ?_
          refine tw_iret C (putN z lf j K v) dX0_put_183 rfl rfl (Or.inr ⟨rfl, K, hK2, rfl, INV_of n1 n2 ?_, VV.trans hV03 n3, ?_⟩)
          · show WFs (SH (putN z lf j K v) (xwk z))
            rw [n5]
            have hsr : srt (FL (putN z lf j K v) (xwk z)) := n4.sorted hs3
            refine put_wf hWtd ?_ ?_ ?_ ?_
            · rw [EL_len, eN, List.length_append, List.length_cons, mapR_len, mapR_len]; omega
            · rw [eN, List.length_append, List.length_cons, mapR_len, mapR_len]; omega
            · rw [eN, List.length_append, List.length_cons, mapR_len, mapR_len]; omega
            · rw [← n5]; exact hsr
          · rw [← hF3]; exact n4
        · obtain ⟨f, hf, h0, hm⟩ := freshL n1
          have h5 : xls (putN z lf j K v) lf = 5 := by
            show updN (xls z) lf (xls z lf + 1) lf = 5
            rw [updN_at]; omega
          have hspl := @P_split (putN z lf j K v) q f n1 n2 h13 hq3 (by rw [lvN, hlf]; exact hl3) (by rw [lvN, hlf]; exact h5) hrs hf h0
          rw [lvN, hlf] at hspl
          obtain ⟨s1, s2, s3, s4⟩ := hspl
          refine tw_aload_n C dX0_put_175 rfl ?_
          refine tw_iload_n C dX0_put_176 rfl ?_
          refine tw_iload C dX0_put_177 rfl ?_
          refine tt_callv2 C (t_split (putN z lf j K v) q lf f n1.1 blf hq3 hrs hf h0 hm) rfl q108 q110 qs9 q111 (by decide +kernel) (by decide) (by decide) (Nat.le_of_ble_eq_true rfl) dX0_put_179  (fun w hw => ?_)
          subst hw
          refine tw_iconst C (nI 1) dX0_put_182 (by decide) ?_
          have hwk : xwk (splS (putN z lf j K v) q lf f) = xwk z := rfl
          have s4' : SH (splS (putN z lf j K v) q lf f) (xwk z) = (SH (putN z lf j K v) (xwk z)).take q ++ mapR 3 (ent (putN z lf j K v) lf) :: mapR 2 (fun i => ent (putN z lf j K v) lf (3 + i)) :: (SH (putN z lf j K v) (xwk z)).drop (q + 1) := s4
          have n5' : (SH (putN z lf j K v) (xwk z)).take q = (SH z (xwk z)).take q ∧ (SH (putN z lf j K v) (xwk z)).drop (q + 1) = (SH z (xwk z)).drop (q + 1) := by
            have hlen : ((SH z (xwk z)).take q).length = q := by rw [List.length_take, SH_len]; omega
            rw [n5]
            refine ⟨?_, drop_mid hlen⟩
            rw [List.take_append_of_le_length (by rw [hlen]; exact Nat.le_refl _), List.take_of_length_le (by rw [hlen]; exact Nat.le_refl _)]
          have eE : EL (putN z lf j K v) lf = mapR 3 (ent (putN z lf j K v) lf) ++ mapR 2 (fun i => ent (putN z lf j K v) lf (3 + i)) := by
            unfold EL
            rw [h5]
            exact mapR_add 3 2 _
          have eFL : FL (splS (putN z lf j K v) q lf f) (xwk z) = FL (putN z lf j K v) (xwk z) := by
            unfold FL
            rw [s4', n5'.1, n5'.2, n5, eE]
            simp only [List.flatten_append, List.flatten_cons, List.append_assoc]
          refine tw_iret C (splS (putN z lf j K v) q lf f) dX0_put_183 rfl rfl (Or.inr ⟨rfl, K, hK2, rfl, INV_of s1 s2 ?_, VV.trans (VV.trans hV03 n3) s3, ?_⟩)
          · show WFs (SH (splS (putN z lf j K v) q lf f) (xwk z))
            have hsr : srt (FL (putN z lf j K v) (xwk z)) := n4.sorted hs3
            have h32 : ∀ e ∈ FL (splS (putN z lf j K v) q lf f) (xwk z), e.1 < 32 := fun e he => FL_k32 s1.1 he
            rw [← eFL] at hsr
            unfold FL at hsr h32
            rw [s4', n5'.1, n5'.2] at hsr h32 ⊢
            exact split_wf hWtd (mapR_len _ _) (mapR_len _ _) hsr h32
          · rw [hwk, eFL, ← hF3]; exact n4
      · obtain ⟨a, rfl⟩ : ∃ a, j = a + 1 := ⟨j - 1, by omega⟩
        refine tw_aload_n C dX0_put_105 rfl ?_
        refine tw_iload C dX0_put_106 rfl ?_
        refine tw_iload C dX0_put_108 rfl ?_
        refine tw_iconst C (nI 1) dX0_put_110 (by decide) ?_
        refine tn_isub C dX0_put_111 (by omega) ?_
        refine tw_iload C dX0_put_112 rfl ?_
        refine tw_iload C dX0_put_114 rfl ?_
        refine tt_callv4 C (t_copyEntry (slv (slk z (shU (xlk z) (lf * 5 + (a + 1)) (lf * 5 + xls z lf))) (shU (xlv z) (lf * 5 + (a + 1)) (lf * 5 + xls z lf))) lf a lf (a + 1) (Bd_lv (Bd_lk hB3 (shU_lt hB3.2.2.1))) (by omega) (by omega)) rfl q100 q102 qs7 q103 (by decide +kernel) (by decide) (by decide) (Nat.le_of_ble_eq_true rfl) dX0_put_116  (fun w hw => ?_)
        subst hw
        refine tn_dec C dX0_put_119 rfl (by decide) rfl ?_
        refine tw_goto C 98 dX0_put_122 (by decide) ?_
        refine tt_st ?_ (ih a ⟨by omega, by omega⟩ (by omega))
        unfold cpE
        rw [show xlk (slv (slk z (shU (xlk z) (lf * 5 + (a + 1)) (lf * 5 + xls z lf))) (shU (xlv z) (lf * 5 + (a + 1)) (lf * 5 + xls z lf))) (lf * 5 + a) = xlk z (lf * 5 + a) from shU_lo _ (by omega), show xlv (slv (slk z (shU (xlk z) (lf * 5 + (a + 1)) (lf * 5 + xls z lf))) (shU (xlv z) (lf * 5 + (a + 1)) (lf * 5 + xls z lf))) (lf * 5 + a) = xlv z (lf * 5 + a) from shU_lo _ (by omega), ← shU_stepN (xlk z) (a := lf * 5 + a) (by omega), ← shU_stepI (xlv z) (a := lf * 5 + a) (by omega)]
        rfl
    refine tw_istore C dX0_put_59 (by decide) rfl ?_
    refine tw_iload C dX0_put_61 rfl ?_
    refine tw_aload_n C dX0_put_63 rfl ?_
    refine tt_get_ls C dX0_put_64 ?_
    refine tw_iload C dX0_put_67 rfl ?_
    refine tt_ld_ls C _ dX0_put_69 (by omega) rfl ?_
    refine tn_icmp_eq C 89 dX0_put_70 (by decide) (by omega) (by omega)  (fun hb => ?_) (fun hb => ?_)
    · exact tw_pick [0, 1, 2, 3, 4, 5] rfl (fin (fun q => absurd q (by omega)))
    · refine tw_aload_n C dX0_put_73 rfl ?_
      refine tt_get_lk C dX0_put_74 ?_
      refine tw_iload C dX0_put_77 rfl ?_
      refine tw_iconst C (nI 5) dX0_put_79 (by decide) ?_
      refine tn_imul C dX0_put_80 ?_
      refine tw_iload C dX0_put_81 rfl ?_
      refine tn_iadd C dX0_put_83 ?_
      refine tt_ld_lk C _ dX0_put_84 (by omega) rfl ?_
      refine tw_iload_n C dX0_put_85 rfl ?_
      refine tw_icmp_eq C 151 dX0_put_86 (by decide)  (fun hb2 => ?_) (fun hb2 => ?_)
      · obtain ⟨n1, n2, n3, n4, n5⟩ := aO (by omega) hb2
        have eO := eO (by omega)
        refine tw_aload_n C dX0_put_151 rfl ?_
        refine tt_get_lv C dX0_put_152 ?_
        refine tw_iload C dX0_put_155 rfl ?_
        refine tw_iconst C (nI 5) dX0_put_157 (by decide) ?_
        refine tn_imul C dX0_put_158 ?_
        refine tw_iload C dX0_put_159 rfl ?_
        refine tn_iadd C dX0_put_161 ?_
        refine tw_iload_n C dX0_put_162 rfl ?_
        refine tt_st_lv C dX0_put_163 (by omega) ?_
        refine tw_aload_n C dX0_put_164 rfl ?_
        refine tt_get_ls C dX0_put_165 ?_
        refine tw_iload C dX0_put_168 rfl ?_
        refine tt_ld_ls C (xls z lf) dX0_put_170 (by omega) rfl ?_
        refine tw_iconst C (nI 4) dX0_put_171 (by decide) ?_
        refine tt_st (y := putO z lf i v) rfl ?_
        refine tn_icmp_le C 182 dX0_put_172 (by decide) (by omega) (by omega)  (fun hb4 => ?_) (fun hb4 => ?_)
        · refine tw_iconst C (nI 1) dX0_put_182 (by decide) ?_
          refine tw_iret C (putO z lf i v) dX0_put_183 rfl rfl (Or.inr ⟨rfl, K, hK2, rfl, INV_of n1 n2 ?_, VV.trans hV03 n3, ?_⟩)
          · show WFs (SH (putO z lf i v) (xwk z))
            rw [n5]
            have hsr : srt (FL (putO z lf i v) (xwk z)) := n4.sorted hs3
            refine put_wf hWtd ?_ ?_ ?_ ?_
            · rw [EL_len, eO, List.length_append, List.length_cons, mapR_len, mapR_len]; omega
            · rw [eO, List.length_append, List.length_cons, mapR_len, mapR_len]; omega
            · rw [eO, List.length_append, List.length_cons, mapR_len, mapR_len]; omega
            · rw [← n5]; exact hsr
          · rw [← hF3]; exact n4
        · omega
      · exact tw_pick [0, 1, 2, 3, 4, 5] rfl (fin (fun _ => hb2))
  refine tw_aload_n C dX0_put_12 rfl ?_
  refine tt_callv0 C (t_ownRoot x h) rfl q72 q74 qs0 q75 (by decide +kernel) (by decide) (by decide) (Nat.le_of_ble_eq_true rfl) dX0_put_13  (fun x1 h1 => ?_)
  obtain ⟨hI, hV1, hu1, eS⟩ := h1
  have hB1 := hI.1.1
  have hw8 : xwk x1 < 8 := hB1.2.2.2.2.2.2.2
  have hW1 : WF x1 (xwk x1) := hI.2 _ hw8 (wk_live hI.1)
  have hF1 : FL x1 (xwk x1) = FL x (xwk x) := by unfold FL; rw [eS]
  refine tw_aload_n C dX0_put_16 rfl ?_
  refine tw_aload_n C dX0_put_17 rfl ?_
  refine tt_get_wk C (xwk x1) dX0_put_18 rfl ?_
  refine tw_iload_n C dX0_put_21 rfl ?_
  refine tt_calli2 C (t_placeOf x1 (xwk x1) (nI K) hB1 hw8) rfl q84 q86 qs3 q87 (by decide +kernel) (by decide) (by decide) (Nat.le_of_ble_eq_true rfl) dX0_put_22  (fun a u hu => ?_)
  obtain ⟨rfl, rfl⟩ := hu
  by_cases h0 : xrs u (xwk u) = 0
  · rw [show plI u (xwk u) (nI K) = -1 by unfold plI; rw [if_pos h0]]
    refine tw_istore_n C dX0_put_25 (by decide) rfl ?_
    refine tw_iload_n C dX0_put_26 rfl ?_
    refine tw_if_ge C 45 dX0_put_27 (by decide)  (fun hb => ?_) (fun hb => ?_)
    · exact absurd hb (by decide)
    obtain ⟨f, hf, h00, hm⟩ := freshL hI.1
    refine tw_iconst C (nI 0) dX0_put_30 (by decide) ?_
    refine tw_istore_n C dX0_put_31 (by decide) rfl ?_
    refine tw_aload_n C dX0_put_32 rfl ?_
    refine tt_calli0 C (t_freshLeaf u f hB1 hf h00 hm) rfl q88 q90 qs4 q91 (by decide +kernel) (by decide) (by decide) (Nat.le_of_ble_eq_true rfl) dX0_put_33  (fun a z hz => ?_)
    obtain ⟨rfl, rfl⟩ := hz
    refine tw_istore C dX0_put_36 (by decide) rfl ?_
    refine tw_aload_n C dX0_put_38 rfl ?_
    refine tw_iconst C (nI 0) dX0_put_39 (by decide) ?_
    refine tw_iload C dX0_put_40 rfl ?_
    obtain ⟨i1, i2, i3, i4, i5, i6, i7⟩ := @P_ins u 0 f (updN (xls u) f 0) (xlk u) (xlv u) hI.1 hI.oi hu1 (Nat.zero_le _) (by omega) hf h00 (fun j e => updN_ne e) (fun c hc => ⟨rfl, rfl⟩) (updN_le hB1.2.1 (by decide)) hB1.2.2.1 (frL u f) rfl
    refine tt_callv2 C (t_insertLeaf (frL u f) 0 f (Bd_frL hB1) (Nat.zero_le _) (by show xrs u (xwk u) ≤ 16; omega) hf) rfl q92 q94 qs5 q95 (by decide +kernel) (by decide) (by decide) (Nat.le_of_ble_eq_true rfl) dX0_put_42  (fun z hz => ?_)
    subst hz
    have hel : EL (frL u f) f = [] := by
      unfold EL
      rw [show xls (frL u f) f = 0 from updN_at _ _ _]
      rfl
    have hsh : SH (insL (frL u f) 0 f) (xwk u) = [[]] := by
      rw [i4, hel, h0]
      rfl
    have hfl : FL (insL (frL u f) 0 f) (xwk u) = [] := by unfold FL; rw [hsh]; rfl
    have hfl0 : FL u (xwk u) = [] := by unfold FL SH; rw [h0]; rfl
    refine tw_pick [0, 1, 2, 3] rfl (key (insL (frL u f) 0 f) 0 i1 i2 hu1 ?_ (VV.trans hV1 i3) ?_ ?_ ?_ ?_)
    · show 0 < xrs (insL (frL u f) 0 f) (xwk u)
      omega
    · show WFp (SH (insL (frL u f) 0 f) (xwk u))
      rw [hsh]
      exact ⟨by decide, fun E hE => by rw [List.mem_singleton.mp hE]; decide, fun hq => absurd hq (by decide)⟩
    · show srt (FL (insL (frL u f) 0 f) (xwk u))
      rw [hfl]
      exact srt_nil
    · show FL (insL (frL u f) 0 f) (xwk u) = _
      rw [hfl, ← hF1, hfl0]
    · show PlS (SH (insL (frL u f) 0 f) (xwk u)) 0 (nI K)
      rw [hsh]
      exact ⟨fun e he => absurd he List.not_mem_nil, fun e he => absurd he List.not_mem_nil⟩
  · have e1 : plI u (xwk u) (nI K) = nI (plc u (xwk u) (nI K) (xrs u (xwk u) - 1)) := by unfold plI; rw [if_neg h0]
    have hs1 : srt (FL u (xwk u)) := hW1.2.2.2
    have hpc := place_cut hB1 hs1 (fun i hi => by rw [← EL_len]; exact (hW1.2.1 _ (SH_mem.mpr ⟨i, hi, rfl⟩)).1) h0 (nI K)
    have b2 := plc_le u (xwk u) (nI K) (xrs u (xwk u) - 1)
    have b3 := hB1.2.2.2.2.1 (xwk u)
    rw [e1]
    generalize plc u (xwk u) (nI K) (xrs u (xwk u) - 1) = q at hpc b2 ⊢
    have hq : q < xrs u (xwk u) := by omega
    rw [SH_take hq, SH_drop hq] at hpc
    refine tw_istore_n C dX0_put_25 (by decide) rfl ?_
    refine tw_iload_n C dX0_put_26 rfl ?_
    refine tn_if_ge C 45 dX0_put_27 (by decide) (by omega) ?_
    exact tw_pick [0, 1, 2, 3] rfl (key u q hI.1 hI.oi hu1 hq hV1 hW1.p hs1 hF1 hpc)
end WALK8
end
section
/-! taking a key out of a leaf; evening out two leaves -/
theorem rem_pos {x : St} {q K : Nat} (hB : Bd x) (hs : srt (FL x (xwk x))) (hq : q < xrs x (xwk x)) (hP : PlS (SH x (xwk x)) q (nI K)) (hK : K < 32) {w : Int32} (hm : (K, w) ∈ FL x (xwk x)) : bel x (lvs x (xwk x) q) (nI K) < xls x (lvs x (xwk x) q) ∧ xlk x (lvs x (xwk x) q * 5 + bel x (lvs x (xwk x) q) (nI K)) = K := by
  have hs2 := hs
  unfold FL at hs2 hm
  rw [SH_td hq, flat_at] at hs2 hm
  have hsE := (srt_app.mp (srt_app.mp hs2).2.1).1
  obtain ⟨cE, c1, c2⟩ := leaf_cut hB hsE (nI K)
  have hmE : (K, w) ∈ EL x (lvs x (xwk x) q) := by
    rcases List.mem_append.mp hm with z | z
    · exact absurd (hP.1 _ z) Int32.lt_irrefl
    · rcases List.mem_append.mp z with z | z
      · exact z
      · exact absurd (hP.2 _ z) Int32.lt_irrefl
  rw [cE] at hmE
  rcases List.mem_append.mp hmE with z | z
  · exact absurd (c1 _ z) Int32.lt_irrefl
  · obtain ⟨j, hj, ej⟩ := mapR_mem.mp z
    have ek : xlk x (lvs x (xwk x) q * 5 + (bel x (lvs x (xwk x) q) (nI K) + j)) = K := congrArg Prod.fst ej
    refine ⟨by omega, ?_⟩
    rcases Nat.eq_zero_or_pos j with z0 | z0
    · subst z0; exact ek
    · exfalso
      have hlt := EL_srt hsE (show bel x (lvs x (xwk x) q) (nI K) < bel x (lvs x (xwk x) q) (nI K) + j by omega) (by omega)
      rw [ek] at hlt
      exact bel_ge x (lvs x (xwk x) q) (nI K) (by omega) ((nI_lt32 (hB.2.2.1 _) hK).mpr hlt)
def rmN (x : St) (lf i : Nat) : St := slv (slk (sls x (updN (xls x) lf (xls x lf - 1))) (shD (xlk x) (lf * 5 + i) (lf * 5 + (xls x lf - 1)))) (shD (xlv x) (lf * 5 + i) (lf * 5 + (xls x lf - 1)))
theorem rmN_EL {x : St} {lf i : Nat} (hi : i < xls x lf) : EL (rmN x lf i) lf = mapR i (ent x lf) ++ mapR (xls x lf - 1 - i) (fun j => ent x lf (i + 1 + j)) := by
  unfold EL
  rw [show xls (rmN x lf i) lf = xls x lf - 1 from updN_at _ _ _]
  have eE : ∀ j, ent (rmN x lf i) lf j = (shD (xlk x) (lf * 5 + i) (lf * 5 + (xls x lf - 1)) (lf * 5 + j), shD (xlv x) (lf * 5 + i) (lf * 5 + (xls x lf - 1)) (lf * 5 + j)) := fun _ => rfl
  refine mapR_del hi (fun j hj => ?_) (fun j hj => ?_)
  · rw [eE]
    unfold shD ent
    rw [if_neg (by omega), if_neg (by omega)]
  · rw [eE]
    unfold shD ent
    rw [if_pos (by omega), if_pos (by omega), show lf * 5 + (i + j) + 1 = lf * 5 + (i + 1 + j) by omega]
theorem P_rmN0 {x : St} {q i : Nat} (hC : CI x) (hO : OI x) (h1 : xru x (xwk x) = 1) (hq : q < xrs x (xwk x)) (hl : xlu x (lvs x (xwk x) q) = 1) (hi : i < xls x (lvs x (xwk x) q)) :
    CI (rmN x (lvs x (xwk x) q) i) ∧ OI (rmN x (lvs x (xwk x) q) i) ∧ VV x (rmN x (lvs x (xwk x) q) i) ∧ SH (rmN x (lvs x (xwk x) q) i) (xwk x) = (SH x (xwk x)).take q ++ (mapR i (ent x (lvs x (xwk x) q)) ++ mapR (xls x (lvs x (xwk x) q) - 1 - i) (fun j => ent x (lvs x (xwk x) q) (i + 1 + j))) :: (SH x (xwk x)).drop (q + 1) := by
  have hB := hC.1
  have h5 := hB.2.1 (lvs x (xwk x) q)
  obtain ⟨m1, m2, m3, m4⟩ := P_mod (S := updN (xls x) (lvs x (xwk x) q) (xls x (lvs x (xwk x) q) - 1)) (K := shD (xlk x) (lvs x (xwk x) q * 5 + i) (lvs x (xwk x) q * 5 + (xls x (lvs x (xwk x) q) - 1))) (V := shD (xlv x) (lvs x (xwk x) q * 5 + i) (lvs x (xwk x) q * 5 + (xls x (lvs x (xwk x) q) - 1))) hC hO h1 hq hl (fun j e => updN_ne e) (fun c hc => by
    unfold shD
    rw [if_neg (by omega), if_neg (by omega)]
    exact ⟨rfl, rfl⟩) (updN_le hB.2.1 (by omega)) (shD_lt hB.2.2.1)
  rw [SH_take hq, SH_drop hq] at m4
  refine ⟨m1, m2, m3, ?_⟩
  rw [← rmN_EL hi]
  exact m4
theorem P_rmN {x : St} {q K : Nat} (hC : CI x) (hO : OI x) (h1 : xru x (xwk x) = 1) (hq : q < xrs x (xwk x)) (hl : xlu x (lvs x (xwk x) q) = 1) (hi : bel x (lvs x (xwk x) q) (nI K) < xls x (lvs x (xwk x) q)) (hk : xlk x (lvs x (xwk x) q * 5 + bel x (lvs x (xwk x) q) (nI K)) = K) : RemR (FL x (xwk x)) (FL (rmN x (lvs x (xwk x) q) (bel x (lvs x (xwk x) q) (nI K))) (xwk x)) K := by
  obtain ⟨-, -, -, m4⟩ := P_rmN0 hC hO h1 hq hl hi
  refine ⟨((SH x (xwk x)).take q).flatten ++ mapR (bel x (lvs x (xwk x) q) (nI K)) (ent x (lvs x (xwk x) q)), mapR (xls x (lvs x (xwk x) q) - 1 - bel x (lvs x (xwk x) q) (nI K)) (fun j => ent x (lvs x (xwk x) q) (bel x (lvs x (xwk x) q) (nI K) + 1 + j)) ++ ((SH x (xwk x)).drop (q + 1)).flatten, xlv x (lvs x (xwk x) q * 5 + bel x (lvs x (xwk x) q) (nI K)), ?_, ?_⟩
  · show (SH x (xwk x)).flatten = _
    conv => lhs; rw [SH_td hq, flat_at]
    rw [show EL x (lvs x (xwk x) q) = mapR (bel x (lvs x (xwk x) q) (nI K)) (ent x (lvs x (xwk x) q)) ++ ent x (lvs x (xwk x) q) (bel x (lvs x (xwk x) q) (nI K)) :: mapR (xls x (lvs x (xwk x) q) - 1 - bel x (lvs x (xwk x) q) (nI K)) (fun j => ent x (lvs x (xwk x) q) (bel x (lvs x (xwk x) q) (nI K) + 1 + j)) from mapR_at _ hi]
    unfold ent
    rw [hk]
    simp only [List.append_assoc, List.cons_append]
  · show (SH (rmN x (lvs x (xwk x) q) (bel x (lvs x (xwk x) q) (nI K))) (xwk x)).flatten = _
    rw [m4, flat_at]
    simp only [List.append_assoc]
theorem drop_mid2 {α : Type} {A D : List α} {E : α} {q : Nat} (h : A.length = q) : (A ++ E :: D).drop (q + 2) = D.drop 1 := by
  subst h
  rw [List.drop_append, List.drop_of_length_le (by omega), show A.length + 2 - A.length = 2 by omega]
  rfl
/-- the second of two places changes -/
theorem SH_two {x y z : St} {p : Nat} {E1 E2 : List (Nat × Int32)} (hp : p + 1 < xrs x (xwk x)) (h1 : SH y (xwk x) = (SH x (xwk x)).take p ++ E1 :: (SH x (xwk x)).drop (p + 1)) (h2 : SH z (xwk x) = (SH y (xwk x)).take (p + 1) ++ E2 :: (SH y (xwk x)).drop (p + 2)) : SH z (xwk x) = (SH x (xwk x)).take p ++ E1 :: E2 :: (SH x (xwk x)).drop (p + 2) := by
  have hlen : ((SH x (xwk x)).take p).length = p := by rw [List.length_take, SH_len]; omega
  rw [h2, h1, take_mid hlen, drop_mid2 hlen, List.drop_drop]
  simp only [List.append_assoc, List.cons_append, List.nil_append]
def fl1 (x : St) (a b : Nat) : St := slv (slk (sls x (updN (xls x) a (xls x a + xls x b))) (cpy (xlk x) (b * 5) (a * 5 + xls x a) (xls x b))) (cpy (xlv x) (b * 5) (a * 5 + xls x a) (xls x b))
def fl2 (x : St) (a b : Nat) : St := slv (slk (sls x (updN (xls x) a (xls x a + 1))) (updN (xlk x) (a * 5 + xls x a) (xlk x (b * 5 + 0)))) (upd (xlv x) (a * 5 + xls x a) (xlv x (b * 5 + 0)))
def fl3 (x : St) (a : Nat) : St := slv (slk (sls x (updN (xls x) a (xls x a - 1))) (xlk x)) (xlv x)
theorem P_fl1 {x : St} {p : Nat} (hC : CI x) (hO : OI x) (h1 : xru x (xwk x) = 1) (hp : p + 1 < xrs x (xwk x)) (hl : xlu x (lvs x (xwk x) p) = 1) (hn : xls x (lvs x (xwk x) p) + xls x (lvs x (xwk x) (p + 1)) ≤ 5) :
    CI (fl1 x (lvs x (xwk x) p) (lvs x (xwk x) (p + 1))) ∧ CI (drpL (fl1 x (lvs x (xwk x) p) (lvs x (xwk x) (p + 1))) (p + 1)) ∧ OI (drpL (fl1 x (lvs x (xwk x) p) (lvs x (xwk x) (p + 1))) (p + 1)) ∧ VV x (drpL (fl1 x (lvs x (xwk x) p) (lvs x (xwk x) (p + 1))) (p + 1)) ∧ 1 ≤ xlu x (lvs x (xwk x) (p + 1)) ∧ SH (drpL (fl1 x (lvs x (xwk x) p) (lvs x (xwk x) (p + 1))) (p + 1)) (xwk x) = (SH x (xwk x)).take p ++ (EL x (lvs x (xwk x) p) ++ EL x (lvs x (xwk x) (p + 1))) :: (SH x (xwk x)).drop (p + 2) := by
  have hB := hC.1
  have hp0 : p < xrs x (xwk x) := by omega
  have hne : lvs x (xwk x) (p + 1) ≠ lvs x (xwk x) p := fun e => by have := (own1 hC hp0 hl).1 (p + 1) hp e; omega
  obtain ⟨m1, m2, m3, m4⟩ := P_mod (S := updN (xls x) (lvs x (xwk x) p) (xls x (lvs x (xwk x) p) + xls x (lvs x (xwk x) (p + 1)))) (K := cpy (xlk x) (lvs x (xwk x) (p + 1) * 5) (lvs x (xwk x) p * 5 + xls x (lvs x (xwk x) p)) (xls x (lvs x (xwk x) (p + 1)))) (V := cpy (xlv x) (lvs x (xwk x) (p + 1) * 5) (lvs x (xwk x) p * 5 + xls x (lvs x (xwk x) p)) (xls x (lvs x (xwk x) (p + 1)))) hC hO h1 hp0 hl (fun j e => updN_ne e) (fun c hc => ⟨cpy_out _ (by omega), cpy_out _ (by omega)⟩) (updN_le hB.2.1 hn) (cpy_lt hB.2.2.1)
  rw [SH_take hp0, SH_drop hp0] at m4
  have m4' : SH (fl1 x (lvs x (xwk x) p) (lvs x (xwk x) (p + 1))) (xwk x) = (SH x (xwk x)).take p ++ EL (fl1 x (lvs x (xwk x) p) (lvs x (xwk x) (p + 1))) (lvs x (xwk x) p) :: (SH x (xwk x)).drop (p + 1) := m4
  have eE : EL (fl1 x (lvs x (xwk x) p) (lvs x (xwk x) (p + 1))) (lvs x (xwk x) p) = EL x (lvs x (xwk x) p) ++ EL x (lvs x (xwk x) (p + 1)) := by
    unfold EL
    rw [show xls (fl1 x (lvs x (xwk x) p) (lvs x (xwk x) (p + 1))) (lvs x (xwk x) p) = xls x (lvs x (xwk x) p) + xls x (lvs x (xwk x) (p + 1)) from updN_at _ _ _, mapR_add]
    have e0 : ∀ j, ent (fl1 x (lvs x (xwk x) p) (lvs x (xwk x) (p + 1))) (lvs x (xwk x) p) j = (cpy (xlk x) (lvs x (xwk x) (p + 1) * 5) (lvs x (xwk x) p * 5 + xls x (lvs x (xwk x) p)) (xls x (lvs x (xwk x) (p + 1))) (lvs x (xwk x) p * 5 + j), cpy (xlv x) (lvs x (xwk x) (p + 1) * 5) (lvs x (xwk x) p * 5 + xls x (lvs x (xwk x) p)) (xls x (lvs x (xwk x) (p + 1))) (lvs x (xwk x) p * 5 + j)) := fun _ => rfl
    congr 1
    · refine mapR_congr (fun j hj => ?_)
      rw [e0, cpy_out _ (by omega), cpy_out _ (by omega)]
      rfl
    · refine mapR_congr (fun j hj => ?_)
      rw [e0]
      unfold cpy ent
      rw [if_pos (by omega), if_pos (by omega), show lvs x (xwk x) (p + 1) * 5 + (lvs x (xwk x) p * 5 + (xls x (lvs x (xwk x) p) + j) - (lvs x (xwk x) p * 5 + xls x (lvs x (xwk x) p))) = lvs x (xwk x) (p + 1) * 5 + j by omega]
  rw [eE] at m4'
  obtain ⟨d1, d2, d3, d4, d5⟩ := P_drp (x := fl1 x (lvs x (xwk x) p) (lvs x (xwk x) (p + 1))) (q := p + 1) m1 m2 h1 hp
  refine ⟨m1, d1, d2, VV.trans m3 d3, d4, ?_⟩
  have hp' : p + 1 < xrs (fl1 x (lvs x (xwk x) p) (lvs x (xwk x) (p + 1))) (xwk (fl1 x (lvs x (xwk x) p) (lvs x (xwk x) (p + 1)))) := hp
  rw [SH_take hp', SH_drop hp'] at d5
  have d5' : SH (drpL (fl1 x (lvs x (xwk x) p) (lvs x (xwk x) (p + 1))) (p + 1)) (xwk x) = (SH (fl1 x (lvs x (xwk x) p) (lvs x (xwk x) (p + 1))) (xwk x)).take (p + 1) ++ (SH (fl1 x (lvs x (xwk x) p) (lvs x (xwk x) (p + 1))) (xwk x)).drop (p + 2) := d5
  have hlen : ((SH x (xwk x)).take p).length = p := by rw [List.length_take, SH_len]; omega
  rw [d5', m4', take_mid hlen, drop_mid2 hlen, List.drop_drop]
  simp only [List.append_assoc, List.cons_append, List.nil_append]
theorem P_fl2 {x : St} {p : Nat} (hC : CI x) (hO : OI x) (h1 : xru x (xwk x) = 1) (hp : p + 1 < xrs x (xwk x)) (hl : xlu x (lvs x (xwk x) p) = 1) (hl2 : xlu x (lvs x (xwk x) (p + 1)) = 1) (hn : xls x (lvs x (xwk x) p) ≤ 4) (hm : 1 ≤ xls x (lvs x (xwk x) (p + 1))) :
    CI (fl2 x (lvs x (xwk x) p) (lvs x (xwk x) (p + 1))) ∧ CI (rmN (fl2 x (lvs x (xwk x) p) (lvs x (xwk x) (p + 1))) (lvs x (xwk x) (p + 1)) 0) ∧ OI (rmN (fl2 x (lvs x (xwk x) p) (lvs x (xwk x) (p + 1))) (lvs x (xwk x) (p + 1)) 0) ∧ VV x (rmN (fl2 x (lvs x (xwk x) p) (lvs x (xwk x) (p + 1))) (lvs x (xwk x) (p + 1)) 0) ∧ xls (fl2 x (lvs x (xwk x) p) (lvs x (xwk x) (p + 1))) (lvs x (xwk x) (p + 1)) = xls x (lvs x (xwk x) (p + 1)) ∧ SH (rmN (fl2 x (lvs x (xwk x) p) (lvs x (xwk x) (p + 1))) (lvs x (xwk x) (p + 1)) 0) (xwk x) = (SH x (xwk x)).take p ++ (EL x (lvs x (xwk x) p) ++ [ent x (lvs x (xwk x) (p + 1)) 0]) :: mapR (xls x (lvs x (xwk x) (p + 1)) - 1) (fun j => ent x (lvs x (xwk x) (p + 1)) (1 + j)) :: (SH x (xwk x)).drop (p + 2) := by
  have hB := hC.1
  have hp0 : p < xrs x (xwk x) := by omega
  have hne : lvs x (xwk x) (p + 1) ≠ lvs x (xwk x) p := fun e => by have := (own1 hC hp0 hl).1 (p + 1) hp e; omega
  obtain ⟨m1, m2, m3, m4⟩ := P_mod (S := updN (xls x) (lvs x (xwk x) p) (xls x (lvs x (xwk x) p) + 1)) (K := updN (xlk x) (lvs x (xwk x) p * 5 + xls x (lvs x (xwk x) p)) (xlk x (lvs x (xwk x) (p + 1) * 5 + 0))) (V := upd (xlv x) (lvs x (xwk x) p * 5 + xls x (lvs x (xwk x) p)) (xlv x (lvs x (xwk x) (p + 1) * 5 + 0))) hC hO h1 hp0 hl (fun j e => updN_ne e) (fun c hc => ⟨updN_ne (by omega), upd_ne (by omega)⟩) (updN_le hB.2.1 (by omega)) (updN_lt hB.2.2.1 (hB.2.2.1 _))
  rw [SH_take hp0, SH_drop hp0] at m4
  have m4' : SH (fl2 x (lvs x (xwk x) p) (lvs x (xwk x) (p + 1))) (xwk x) = (SH x (xwk x)).take p ++ EL (fl2 x (lvs x (xwk x) p) (lvs x (xwk x) (p + 1))) (lvs x (xwk x) p) :: (SH x (xwk x)).drop (p + 1) := m4
  have e0 : ∀ l j, ent (fl2 x (lvs x (xwk x) p) (lvs x (xwk x) (p + 1))) l j = (updN (xlk x) (lvs x (xwk x) p * 5 + xls x (lvs x (xwk x) p)) (xlk x (lvs x (xwk x) (p + 1) * 5 + 0)) (l * 5 + j), upd (xlv x) (lvs x (xwk x) p * 5 + xls x (lvs x (xwk x) p)) (xlv x (lvs x (xwk x) (p + 1) * 5 + 0)) (l * 5 + j)) := fun _ _ => rfl
  have eE : EL (fl2 x (lvs x (xwk x) p) (lvs x (xwk x) (p + 1))) (lvs x (xwk x) p) = EL x (lvs x (xwk x) p) ++ [ent x (lvs x (xwk x) (p + 1)) 0] := by
    unfold EL
    rw [show xls (fl2 x (lvs x (xwk x) p) (lvs x (xwk x) (p + 1))) (lvs x (xwk x) p) = xls x (lvs x (xwk x) p) + 1 from updN_at _ _ _, mapR_succ]
    congr 1
    · refine mapR_congr (fun j hj => ?_)
      rw [e0, updN_ne (by omega), upd_ne (by omega)]
      rfl
    · rw [e0, updN_at, upd_at]
      rfl
  rw [eE] at m4'
  have els : xls (fl2 x (lvs x (xwk x) p) (lvs x (xwk x) (p + 1))) (lvs x (xwk x) (p + 1)) = xls x (lvs x (xwk x) (p + 1)) := updN_ne hne
  have b5 := hB.2.1 (lvs x (xwk x) (p + 1))
  obtain ⟨d1, d2, d3, d4⟩ := P_rmN0 (x := fl2 x (lvs x (xwk x) p) (lvs x (xwk x) (p + 1))) (q := p + 1) (i := 0) m1 m2 h1 hp hl2 (show 0 < xls (fl2 x (lvs x (xwk x) p) (lvs x (xwk x) (p + 1))) (lvs x (xwk x) (p + 1)) by rw [els]; exact hm)
  refine ⟨m1, d1, d2, VV.trans m3 d3, els, ?_⟩
  have d4' : SH (rmN (fl2 x (lvs x (xwk x) p) (lvs x (xwk x) (p + 1))) (lvs x (xwk x) (p + 1)) 0) (xwk x) = (SH (fl2 x (lvs x (xwk x) p) (lvs x (xwk x) (p + 1))) (xwk x)).take (p + 1) ++ (mapR (xls (fl2 x (lvs x (xwk x) p) (lvs x (xwk x) (p + 1))) (lvs x (xwk x) (p + 1)) - 1 - 0) (fun j => ent (fl2 x (lvs x (xwk x) p) (lvs x (xwk x) (p + 1))) (lvs x (xwk x) (p + 1)) (0 + 1 + j))) :: (SH (fl2 x (lvs x (xwk x) p) (lvs x (xwk x) (p + 1))) (xwk x)).drop (p + 2) := d4
  have h9 := SH_two hp m4' d4'
  rw [h9, els, Nat.sub_zero]
  congr 3
  refine mapR_congr (fun j hj => ?_)
  rw [e0, updN_ne (by omega), upd_ne (by omega), show 0 + 1 + j = 1 + j by omega]
  rfl
theorem P_fl3 {x : St} {p : Nat} (hC : CI x) (hO : OI x) (h1 : xru x (xwk x) = 1) (hp : p + 1 < xrs x (xwk x)) (hl : xlu x (lvs x (xwk x) p) = 1) (hl2 : xlu x (lvs x (xwk x) (p + 1)) = 1) (hm : xls x (lvs x (xwk x) (p + 1)) ≤ 4) :
    CI (putN (fl3 x (lvs x (xwk x) p)) (lvs x (xwk x) (p + 1)) 0 (xlk x (lvs x (xwk x) p * 5 + (xls x (lvs x (xwk x) p) - 1))) (xlv x (lvs x (xwk x) p * 5 + (xls x (lvs x (xwk x) p) - 1)))) ∧ OI (putN (fl3 x (lvs x (xwk x) p)) (lvs x (xwk x) (p + 1)) 0 (xlk x (lvs x (xwk x) p * 5 + (xls x (lvs x (xwk x) p) - 1))) (xlv x (lvs x (xwk x) p * 5 + (xls x (lvs x (xwk x) p) - 1)))) ∧ VV x (putN (fl3 x (lvs x (xwk x) p)) (lvs x (xwk x) (p + 1)) 0 (xlk x (lvs x (xwk x) p * 5 + (xls x (lvs x (xwk x) p) - 1))) (xlv x (lvs x (xwk x) p * 5 + (xls x (lvs x (xwk x) p) - 1)))) ∧ SH (putN (fl3 x (lvs x (xwk x) p)) (lvs x (xwk x) (p + 1)) 0 (xlk x (lvs x (xwk x) p * 5 + (xls x (lvs x (xwk x) p) - 1))) (xlv x (lvs x (xwk x) p * 5 + (xls x (lvs x (xwk x) p) - 1)))) (xwk x) = (SH x (xwk x)).take p ++ mapR (xls x (lvs x (xwk x) p) - 1) (ent x (lvs x (xwk x) p)) :: (ent x (lvs x (xwk x) p) (xls x (lvs x (xwk x) p) - 1) :: EL x (lvs x (xwk x) (p + 1))) :: (SH x (xwk x)).drop (p + 2) := by
  have hB := hC.1
  have hp0 : p < xrs x (xwk x) := by omega
  have hne : lvs x (xwk x) (p + 1) ≠ lvs x (xwk x) p := fun e => by have := (own1 hC hp0 hl).1 (p + 1) hp e; omega
  have b5 := hB.2.1 (lvs x (xwk x) p)
  obtain ⟨m1, m2, m3, m4⟩ := P_mod (S := updN (xls x) (lvs x (xwk x) p) (xls x (lvs x (xwk x) p) - 1)) (K := xlk x) (V := xlv x) hC hO h1 hp0 hl (fun j e => updN_ne e) (fun c hc => ⟨rfl, rfl⟩) (updN_le hB.2.1 (by omega)) hB.2.2.1
  rw [SH_take hp0, SH_drop hp0] at m4
  have m4' : SH (fl3 x (lvs x (xwk x) p)) (xwk x) = (SH x (xwk x)).take p ++ EL (fl3 x (lvs x (xwk x) p)) (lvs x (xwk x) p) :: (SH x (xwk x)).drop (p + 1) := m4
  have eE : EL (fl3 x (lvs x (xwk x) p)) (lvs x (xwk x) p) = mapR (xls x (lvs x (xwk x) p) - 1) (ent x (lvs x (xwk x) p)) := by
    unfold EL
    rw [show xls (fl3 x (lvs x (xwk x) p)) (lvs x (xwk x) p) = xls x (lvs x (xwk x) p) - 1 from updN_at _ _ _]
    rfl
  rw [eE] at m4'
  have els : xls (fl3 x (lvs x (xwk x) p)) (lvs x (xwk x) (p + 1)) = xls x (lvs x (xwk x) (p + 1)) := updN_ne hne
  generalize hy : fl3 x (lvs x (xwk x) p) = y at m4' els
  have ywk : xwk y = xwk x := by rw [← hy]; rfl
  have ylv : ∀ i, lvs y (xwk x) i = lvs x (xwk x) i := fun i => by rw [← hy]; rfl
  have m1' : CI y := by rw [← hy]; exact m1
  have m2' : OI y := by rw [← hy]; exact m2
  have m3' : VV x y := by rw [← hy]; exact m3
  have q1 : xru y (xwk y) = 1 := by rw [← hy]; exact h1
  have q2 : p + 1 < xrs y (xwk y) := by rw [← hy]; exact hp
  have q3 : xlu y (lvs x (xwk x) (p + 1)) = 1 := by rw [← hy]; exact hl2
  have ek : ∀ j, ent y (lvs x (xwk x) (p + 1)) j = ent x (lvs x (xwk x) (p + 1)) j := fun j => by rw [← hy]; rfl
  have hBy := m1'.1
  have e7 : lvs y (xwk y) (p + 1) = lvs x (xwk x) (p + 1) := by rw [ywk, ylv]
  obtain ⟨d1, d2, d3, d4⟩ := P_mod (x := y) (q := p + 1) (S := updN (xls y) (lvs y (xwk y) (p + 1)) (xls y (lvs y (xwk y) (p + 1)) + 1)) (K := updN (shU (xlk y) (lvs y (xwk y) (p + 1) * 5 + 0) (lvs y (xwk y) (p + 1) * 5 + xls y (lvs y (xwk y) (p + 1)))) (lvs y (xwk y) (p + 1) * 5 + 0) (xlk x (lvs x (xwk x) p * 5 + (xls x (lvs x (xwk x) p) - 1)))) (V := upd (shU (xlv y) (lvs y (xwk y) (p + 1) * 5 + 0) (lvs y (xwk y) (p + 1) * 5 + xls y (lvs y (xwk y) (p + 1)))) (lvs y (xwk y) (p + 1) * 5 + 0) (xlv x (lvs x (xwk x) p * 5 + (xls x (lvs x (xwk x) p) - 1)))) m1' m2' q1 q2 (by rw [e7]; exact q3) (fun j e => updN_ne e) (fun c hc => by
    have z : xls y (lvs y (xwk y) (p + 1)) ≤ 4 := by rw [e7, els]; exact hm
    rw [updN_ne (by omega), upd_ne (by omega)]
    unfold shU
    rw [if_neg (by omega), if_neg (by omega)]
    exact ⟨rfl, rfl⟩) (updN_le hBy.2.1 (by rw [e7, els]; omega)) (updN_lt (shU_lt hBy.2.2.1) (hB.2.2.1 _))
  rw [SH_take q2, SH_drop q2] at d4
  rw [e7] at d1 d2 d3 d4
  rw [ywk] at d4
  refine ⟨d1, d2, VV.trans m3' d3, ?_⟩
  have h9 := SH_two hp m4' d4
  rw [show SH (putN y (lvs x (xwk x) (p + 1)) 0 (xlk x (lvs x (xwk x) p * 5 + (xls x (lvs x (xwk x) p) - 1))) (xlv x (lvs x (xwk x) p * 5 + (xls x (lvs x (xwk x) p) - 1)))) (xwk x) = _ from h9]
  have e8 : EL (putN y (lvs x (xwk x) (p + 1)) 0 (xlk x (lvs x (xwk x) p * 5 + (xls x (lvs x (xwk x) p) - 1))) (xlv x (lvs x (xwk x) p * 5 + (xls x (lvs x (xwk x) p) - 1)))) (lvs x (xwk x) (p + 1)) = ent x (lvs x (xwk x) p) (xls x (lvs x (xwk x) p) - 1) :: EL x (lvs x (xwk x) (p + 1)) := by
    rw [putN_EL (Nat.zero_le _), els, Nat.sub_zero]
    show (xlk x (lvs x (xwk x) p * 5 + (xls x (lvs x (xwk x) p) - 1)), xlv x (lvs x (xwk x) p * 5 + (xls x (lvs x (xwk x) p) - 1))) :: mapR (xls x (lvs x (xwk x) (p + 1))) (fun j => ent y (lvs x (xwk x) (p + 1)) (0 + j)) = _
    unfold EL
    congr 1
    refine mapR_congr (fun j hj => ?_)
    rw [Nat.zero_add, ek]
  rw [show EL (slv (slk (sls y (updN (xls y) (lvs x (xwk x) (p + 1)) (xls y (lvs x (xwk x) (p + 1)) + 1))) (updN (shU (xlk y) (lvs x (xwk x) (p + 1) * 5 + 0) (lvs x (xwk x) (p + 1) * 5 + xls y (lvs x (xwk x) (p + 1)))) (lvs x (xwk x) (p + 1) * 5 + 0) (xlk x (lvs x (xwk x) p * 5 + (xls x (lvs x (xwk x) p) - 1))))) (upd (shU (xlv y) (lvs x (xwk x) (p + 1) * 5 + 0) (lvs x (xwk x) (p + 1) * 5 + xls y (lvs x (xwk x) (p + 1)))) (lvs x (xwk x) (p + 1) * 5 + 0) (xlv x (lvs x (xwk x) p * 5 + (xls x (lvs x (xwk x) p) - 1))))) (lvs x (xwk x) (p + 1)) = _ from e8]
end
section
set_option maxRecDepth 100000
/-- what fill leaves -/
def FilR (x : St) (p : Nat) (u : St) : Prop := CI u ∧ OI u ∧ VV x u ∧ xwk u = xwk x ∧ ∃ M, SH u (xwk x) = (SH x (xwk x)).take p ++ (M ++ (SH x (xwk x)).drop (p + 2)) ∧ M.flatten = EL x (lvs x (xwk x) p) ++ EL x (lvs x (xwk x) (p + 1)) ∧ (∀ E ∈ M, 2 ≤ E.length ∧ E.length ≤ 4) ∧ M.length ≤ 2
theorem FilR.trans {x z u : St} {p : Nat} (hV : VV x z) (hw : xwk z = xwk x) (hs : SH z (xwk z) = SH x (xwk x)) (e1 : EL z (lvs z (xwk z) p) = EL x (lvs x (xwk x) p)) (e2 : EL z (lvs z (xwk z) (p + 1)) = EL x (lvs x (xwk x) (p + 1))) (h : FilR z p u) : FilR x p u := by
  obtain ⟨a1, a2, a3, a4, M, b1, b2, b3, b4⟩ := h
  refine ⟨a1, a2, VV.trans hV a3, a4.trans hw, M, ?_, ?_, b3, b4⟩
  · rw [← hw, b1, hs, hw]
  · rw [b2, e1, e2]
theorem SH_el {x z : St} {p : Nat} (hp : p < xrs x (xwk x)) (hr : xrs z (xwk z) = xrs x (xwk x)) (h : SH z (xwk z) = SH x (xwk x)) : EL z (lvs z (xwk z) p) = EL x (lvs x (xwk x) p) := by
  have h1 : (SH z (xwk z))[p]? = some (EL z (lvs z (xwk z) p)) := mapR_get _ (by rw [hr]; exact hp)
  have h2 : (SH x (xwk x))[p]? = some (EL x (lvs x (xwk x) p)) := mapR_get _ hp
  rw [h, h2] at h1
  exact (Option.some.inj h1).symm
section WALK9
variable {l : Launch} {D : va_G} {ad : Nat → Nat} {dB dI : ClassId}
theorem t_fill (x : St) (q : Nat) (hC : CI x) (hO : OI x) (h1 : xru x (xwk x) = 1) (hq : q + 1 < xrs x (xwk x)) (hsz : (xls x (lvs x (xwk x) q) = 1 ∧ 2 ≤ xls x (lvs x (xwk x) (q + 1)) ∧ xls x (lvs x (xwk x) (q + 1)) ≤ 4) ∨ (xls x (lvs x (xwk x) (q + 1)) = 1 ∧ 2 ≤ xls x (lvs x (xwk x) q) ∧ xls x (lvs x (xwk x) q) ≤ 4)) : TMv l yX0_fill cX0_fill 6 2 D (tyT dB dI) [.ref (ad 0), .int (nI q)] (wT ad dB dI x) (wT ad dB dI) (FilR x q) := by
  refine TMv.of (by decide) (Nat.le_of_ble_eq_true rfl) (fun p e s m below meth c A C => ?_)
  refine tw_aload_n C dX0_fill_0 rfl ?_
  refine tw_iload_n C dX0_fill_1 rfl ?_
  refine tt_calli1 C (t_ownLeaf x q hC hO h1 (by omega)) rfl q96 q98 qs6 q99 (by decide +kernel) (by decide) (by decide) (Nat.le_of_ble_eq_true rfl) dX0_fill_2  (fun a x1 g1 => ?_)
  obtain ⟨rfl, hC1, hO1, hV1, e1, e2, e3, hl1, e4, -, -⟩ := g1
  have h11 : xru x1 (xwk x1) = 1 := by rw [e2, e1]; exact h1
  have hr1 : xrs x1 (xwk x1) = xrs x (xwk x) := by rw [e3, e1]
  refine tw_istore_n C dX0_fill_5 (by decide) rfl ?_
  refine tw_aload_n C dX0_fill_6 rfl ?_
  refine tw_iload_n C dX0_fill_7 rfl ?_
  refine tw_iconst C (nI 1) dX0_fill_8 (by decide) ?_
  refine tn_iadd C dX0_fill_9 ?_
  refine tt_calli1 C (t_ownLeaf x1 (q + 1) hC1 hO1 h11 (by rw [hr1]; exact hq)) rfl q96 q98 qs6 q99 (by decide +kernel) (by decide) (by decide) (Nat.le_of_ble_eq_true rfl) dX0_fill_10  (fun a z g2 => ?_)
  obtain ⟨rfl, hC2, hO2, hV2, f1, f2, f3, hl2, f4, f5, f6⟩ := g2
  have h12 : xru z (xwk z) = 1 := by rw [f2, f1]; exact h11
  have hr2 : xrs z (xwk z) = xrs x (xwk x) := by rw [f3, f1]; exact hr1
  have hn17 := hC.1.2.2.2.2.1 (xwk x)
  have g5 : lvs z (xwk z) q = lvs x1 (xwk x1) q := f5 q (by omega) (by omega)
  have hlq : xlu z (lvs z (xwk z) q) = 1 := by
    have a1 : lvs z (xwk z) q ≠ lvs z (xwk z) (q + 1) := fun e => by
      have := (own1 hC2 (q := q + 1) (by omega) hl2).1 q (by omega) e
      omega
    have a2 : lvs x1 (xwk x1) (q + 1) ≠ lvs x1 (xwk x1) q := fun e => by
      have := (own1 hC1 (q := q) (by omega) hl1).1 (q + 1) (by omega) e
      omega
    rw [f6 _ a1 (by rw [g5]; exact fun e => a2 e.symm), g5]
    exact hl1
  rw [← g5]
  have hS : SH z (xwk z) = SH x (xwk x) := f4.trans e4
  have hVz := VV.trans hV1 hV2
  have hwk : xwk z = xwk x := f1.trans e1
  have eA := SH_el (p := q) (by omega) hr2 hS
  have eB := SH_el (p := q + 1) hq hr2 hS
  have lA : xls z (lvs z (xwk z) q) = xls x (lvs x (xwk x) q) := by rw [← EL_len, ← EL_len, eA]
  have lB : xls z (lvs z (xwk z) (q + 1)) = xls x (lvs x (xwk x) (q + 1)) := by rw [← EL_len, ← EL_len, eB]
  have hfin : ∀ u, FilR z q u → FilR x q u := fun u => FilR.trans hVz hwk hS eA eB
  rw [← lA, ← lB] at hsz
  have hqz : q + 1 < xrs z (xwk z) := by omega
  clear f1 f2 f3 f4 f5 f6 e1 e2 e3 e4 g5 hV1 hV2 hC1 hO1 h11 hr1 hl1
  clear x1
  have hB := hC2.1
  have F1 := P_fl1 hC2 hO2 h12 hqz hlq
  have F2 := P_fl2 hC2 hO2 h12 hqz hlq hl2
  have F3 := P_fl3 hC2 hO2 h12 hqz hlq hl2
  have hne : lvs z (xwk z) (q + 1) ≠ lvs z (xwk z) q := fun e => by have := (own1 hC2 (show q < xrs z (xwk z) by omega) hlq).1 (q + 1) hqz e; omega
  have bA := lvs_lt hB (xwk z) q
  have bB := lvs_lt hB (xwk z) (q + 1)
  have lvq : xrl z (xwk z * 17 + (q + 1)) = lvs z (xwk z) (q + 1) := rfl
  unfold FilR at hfin
  generalize hla : lvs z (xwk z) q = la at *
  generalize hlb : lvs z (xwk z) (q + 1) = lb at *
  refine tw_istore_n C dX0_fill_13 (by decide) rfl ?_
  refine tw_aload_n C dX0_fill_14 rfl ?_
  refine tt_get_ls C dX0_fill_15 ?_
  refine tw_iload_n C dX0_fill_18 rfl ?_
  refine tt_ld_ls C _ dX0_fill_19 (by omega) rfl ?_
  refine tw_aload_n C dX0_fill_20 rfl ?_
  refine tt_get_ls C dX0_fill_21 ?_
  refine tw_iload_n C dX0_fill_24 rfl ?_
  refine tt_ld_ls C _ dX0_fill_25 (by omega) rfl ?_
  refine tn_iadd C dX0_fill_26 ?_
  refine tw_istore C dX0_fill_27 (by decide) rfl ?_
  refine tw_iload C dX0_fill_29 rfl ?_
  refine tw_iconst C (nI 4) dX0_fill_31 (by decide) ?_
  refine tn_icmp_gt C 91 dX0_fill_32 (by decide) (by omega) (by omega)  (fun hb => ?_) (fun hb => ?_)
  · refine tw_aload_n C dX0_fill_91 rfl ?_
    refine tt_get_ls C dX0_fill_92 ?_
    refine tw_iload_n C dX0_fill_95 rfl ?_
    refine tt_ld_ls C _ dX0_fill_96 (by omega) rfl ?_
    refine tw_iconst C (nI 2) dX0_fill_97 (by decide) ?_
    refine tn_icmp_ge C 171 dX0_fill_98 (by decide) (by omega) (by omega)  (fun hb2 => ?_) (fun hb2 => ?_)
    · -- the left one has four, the right one has one
      have hb1 : xls z lb = 1 := by omega
      have ha4 : xls z la = 4 := by omega
      obtain ⟨d1, d2, d3, d4⟩ := F3 (by omega)
      refine tw_aload_n C dX0_fill_171 rfl ?_
      refine tt_get_ls C dX0_fill_172 ?_
      refine tw_iload_n C dX0_fill_175 rfl ?_
      refine tt_ld_ls C _ dX0_fill_176 (by omega) rfl ?_
      refine tw_istore C dX0_fill_177 (by decide) rfl ?_
      refine tt_st (y := slv (slk z (shU (xlk z) (lb * 5 + xls z lb) (lb * 5 + xls z lb))) (shU (xlv z) (lb * 5 + xls z lb) (lb * 5 + xls z lb))) (by rw [shU_0, shU_0]) ?_
      refine tw_pick [0, 1, 2, 3, 5] rfl ?_
      refine tw_loop (fun j => wT ad dB dI (slv (slk z (shU (xlk z) (lb * 5 + j) (lb * 5 + xls z lb))) (shU (xlv z) (lb * 5 + j) (lb * 5 + xls z lb)))) (fun j => [(0, .ref (ad 0)), (1, .int (nI q)), (2, .int (nI la)), (3, .int (nI lb)), (5, .int (nI j))]) (fun j => j ≤ xls z lb) (fun j => j) ?_ (xls z lb) (Nat.le_refl _)
      intro j hj ih
      refine tw_iload C dX0_fill_179 rfl ?_
      refine tn_if_le C 202 dX0_fill_181 (by decide) (by omega)  (fun hb3 => ?_) (fun hb3 => ?_)
      · subst hb3
        refine tw_aload_n C dX0_fill_202 rfl ?_
        refine tt_get_ls C dX0_fill_203 ?_
        refine tw_iload_n C dX0_fill_206 rfl ?_
        refine tw_dup2 C dX0_fill_207 rfl rfl ?_
        refine tt_ld_ls C (xls z la) dX0_fill_208 (by omega) rfl ?_
        refine tw_iconst C (nI 1) dX0_fill_209 (by decide) ?_
        refine tn_isub C dX0_fill_210 (by omega) ?_
        refine tn_i2b C dX0_fill_211 (by omega) ?_
        refine tt_st_ls C dX0_fill_212 (by omega) (by omega) ?_
        refine tw_aload_n C dX0_fill_213 rfl ?_
        refine tw_iload_n C dX0_fill_214 rfl ?_
        refine tw_aload_n C dX0_fill_215 rfl ?_
        refine tt_get_ls C dX0_fill_216 ?_
        refine tw_iload_n C dX0_fill_219 rfl ?_
        refine tt_ld_ls C (xls z la - 1) dX0_fill_220 (by omega) (updN_at _ _ _) ?_
        refine tw_iload_n C dX0_fill_221 rfl ?_
        refine tw_iconst C (nI 0) dX0_fill_222 (by decide) ?_
        refine tt_callv4 C (t_copyEntry (sls (slv (slk z (shU (xlk z) (lb * 5 + 0) (lb * 5 + xls z lb))) (shU (xlv z) (lb * 5 + 0) (lb * 5 + xls z lb))) (updN (xls z) la (xls z la - 1))) la (xls z la - 1) lb 0 (Bd_ls (Bd_lv (Bd_lk hB (shU_lt hB.2.2.1))) (updN_le hB.2.1 (by omega))) (by omega) (by omega)) rfl q100 q102 qs7 q103 (by decide +kernel) (by decide) (by decide) (Nat.le_of_ble_eq_true rfl) dX0_fill_223  (fun w hw => ?_)
        subst hw
        refine tw_aload_n C dX0_fill_226 rfl ?_
        refine tt_get_ls C dX0_fill_227 ?_
        refine tw_iload_n C dX0_fill_230 rfl ?_
        refine tw_dup2 C dX0_fill_231 rfl rfl ?_
        refine tt_ld_ls C (xls z lb) dX0_fill_232 (by omega) (updN_ne hne) ?_
        refine tw_iconst C (nI 1) dX0_fill_233 (by decide) ?_
        refine tn_iadd C dX0_fill_234 ?_
        refine tn_i2b C dX0_fill_235 (by omega) ?_
        refine tt_st_ls C dX0_fill_236 (by omega) (by omega) ?_
        refine tw_vret C (putN (fl3 z la) lb 0 (xlk z (la * 5 + (xls z la - 1))) (xlv z (la * 5 + (xls z la - 1)))) dX0_fill_237 (congrArg (wT ad dB dI) ?_) ?_
        · unfold cpE putN fl3
          rw [show xls (slv (slk (sls z (updN (xls z) la (xls z la - 1))) (xlk z)) (xlv z)) lb = xls z lb from updN_ne hne]
          rw [show xlk (sls (slv (slk z (shU (xlk z) (lb * 5 + 0) (lb * 5 + xls z lb))) (shU (xlv z) (lb * 5 + 0) (lb * 5 + xls z lb))) (updN (xls z) la (xls z la - 1))) (la * 5 + (xls z la - 1)) = xlk z (la * 5 + (xls z la - 1)) by
            show shU (xlk z) (lb * 5 + 0) (lb * 5 + xls z lb) (la * 5 + (xls z la - 1)) = _
            unfold shU
            rw [if_neg (by omega)]]
          rw [show xlv (sls (slv (slk z (shU (xlk z) (lb * 5 + 0) (lb * 5 + xls z lb))) (shU (xlv z) (lb * 5 + 0) (lb * 5 + xls z lb))) (updN (xls z) la (xls z la - 1))) (la * 5 + (xls z la - 1)) = xlv z (la * 5 + (xls z la - 1)) by
            show shU (xlv z) (lb * 5 + 0) (lb * 5 + xls z lb) (la * 5 + (xls z la - 1)) = _
            unfold shU
            rw [if_neg (by omega)]]
        · refine hfin _ ⟨d1, d2, d3, rfl, [mapR (xls z la - 1) (ent z la), ent z la (xls z la - 1) :: EL z lb], d4, ?_, ?_, ?_⟩
          · show mapR (xls z la - 1) (ent z la) ++ ((ent z la (xls z la - 1) :: EL z lb) ++ []) = EL z la ++ EL z lb
            rw [List.append_nil, show EL z la = mapR (xls z la - 1) (ent z la) ++ [ent z la (xls z la - 1)] by
              unfold EL
              conv => lhs; rw [show xls z la = (xls z la - 1) + 1 by omega]
              exact mapR_succ _ _]
            simp only [List.append_assoc, List.cons_append, List.nil_append]
          · intro E hE
            rcases List.mem_cons.mp hE with y | y
            · rw [y, mapR_len]; omega
            · rw [List.mem_singleton.mp y, List.length_cons, EL_len]; omega
          · exact Nat.le_refl _
      · obtain ⟨a, rfl⟩ : ∃ a, j = a + 1 := ⟨j - 1, by omega⟩
        refine tw_aload_n C dX0_fill_184 rfl ?_
        refine tw_iload_n C dX0_fill_185 rfl ?_
        refine tw_iload C dX0_fill_186 rfl ?_
        refine tw_iconst C (nI 1) dX0_fill_188 (by decide) ?_
        refine tn_isub C dX0_fill_189 (by omega) ?_
        refine tw_iload_n C dX0_fill_190 rfl ?_
        refine tw_iload C dX0_fill_191 rfl ?_
        refine tt_callv4 C (t_copyEntry (slv (slk z (shU (xlk z) (lb * 5 + (a + 1)) (lb * 5 + xls z lb))) (shU (xlv z) (lb * 5 + (a + 1)) (lb * 5 + xls z lb))) lb a lb (a + 1) (Bd_lv (Bd_lk hB (shU_lt hB.2.2.1))) (by omega) (by omega)) rfl q100 q102 qs7 q103 (by decide +kernel) (by decide) (by decide) (Nat.le_of_ble_eq_true rfl) dX0_fill_193  (fun w hw => ?_)
        subst hw
        refine tn_dec C dX0_fill_196 rfl (by decide) rfl ?_
        refine tw_goto C 179 dX0_fill_199 (by decide) ?_
        refine tt_st ?_ (ih a (by omega) (by omega))
        unfold cpE
        rw [show xlk (slv (slk z (shU (xlk z) (lb * 5 + (a + 1)) (lb * 5 + xls z lb))) (shU (xlv z) (lb * 5 + (a + 1)) (lb * 5 + xls z lb))) (lb * 5 + a) = xlk z (lb * 5 + a) from shU_lo _ (by omega), show xlv (slv (slk z (shU (xlk z) (lb * 5 + (a + 1)) (lb * 5 + xls z lb))) (shU (xlv z) (lb * 5 + (a + 1)) (lb * 5 + xls z lb))) (lb * 5 + a) = xlv z (lb * 5 + a) from shU_lo _ (by omega), ← shU_stepN (xlk z) (a := lb * 5 + a) (by omega), ← shU_stepI (xlv z) (a := lb * 5 + a) (by omega)]
        rfl
    · -- the left one has one, the right one has four
      have ha1 : xls z la = 1 := by omega
      have hb4 : xls z lb = 4 := by omega
      obtain ⟨d0, d1, d2, d3, d5, d4⟩ := F2 (by omega) (by omega)
      have hB2 := d0.1
      refine tw_aload_n C dX0_fill_101 rfl ?_
      refine tw_iload_n C dX0_fill_102 rfl ?_
      refine tw_iconst C (nI 0) dX0_fill_103 (by decide) ?_
      refine tw_iload_n C dX0_fill_104 rfl ?_
      refine tw_aload_n C dX0_fill_105 rfl ?_
      refine tt_get_ls C dX0_fill_106 ?_
      refine tw_iload_n C dX0_fill_109 rfl ?_
      refine tt_ld_ls C _ dX0_fill_110 (by omega) rfl ?_
      refine tt_callv4 C (t_copyEntry z lb 0 la (xls z la) hB (by omega) (by omega)) rfl q100 q102 qs7 q103 (by decide +kernel) (by decide) (by decide) (Nat.le_of_ble_eq_true rfl) dX0_fill_111  (fun w hw => ?_)
      subst hw
      refine tw_aload_n C dX0_fill_114 rfl ?_
      refine tt_get_ls C dX0_fill_115 ?_
      refine tw_iload_n C dX0_fill_118 rfl ?_
      refine tw_dup2 C dX0_fill_119 rfl rfl ?_
      refine tt_ld_ls C (xls z la) dX0_fill_120 (by omega) rfl ?_
      refine tw_iconst C (nI 1) dX0_fill_121 (by decide) ?_
      refine tn_iadd C dX0_fill_122 ?_
      refine tn_i2b C dX0_fill_123 (by omega) ?_
      refine tt_st_ls C dX0_fill_124 (by omega) (by omega) ?_
      refine tw_aload_n C dX0_fill_125 rfl ?_
      refine tt_get_ls C dX0_fill_126 ?_
      refine tw_iload_n C dX0_fill_129 rfl ?_
      refine tw_dup2 C dX0_fill_130 rfl rfl ?_
      refine tt_ld_ls C (xls z lb) dX0_fill_131 (by omega) (updN_ne hne) ?_
      refine tw_iconst C (nI 1) dX0_fill_132 (by decide) ?_
      refine tn_isub C dX0_fill_133 (by omega) ?_
      refine tn_i2b C dX0_fill_134 (by omega) ?_
      refine tt_st_ls C dX0_fill_135 (by omega) (by omega) ?_
      refine tw_iconst C (nI 0) dX0_fill_136 (by decide) ?_
      refine tw_istore C dX0_fill_137 (by decide) rfl ?_
      refine tt_st (y := slv (slk (sls (fl2 z la lb) (updN (xls (fl2 z la lb)) lb (xls z lb - 1))) (shD (xlk (fl2 z la lb)) (lb * 5 + 0) (lb * 5 + 0))) (shD (xlv (fl2 z la lb)) (lb * 5 + 0) (lb * 5 + 0))) (by rw [shD_0, shD_0]; rfl) ?_
      refine tw_pick [0, 1, 2, 3, 5] rfl ?_
      refine tw_loop (fun j => wT ad dB dI (slv (slk (sls (fl2 z la lb) (updN (xls (fl2 z la lb)) lb (xls z lb - 1))) (shD (xlk (fl2 z la lb)) (lb * 5 + 0) (lb * 5 + j))) (shD (xlv (fl2 z la lb)) (lb * 5 + 0) (lb * 5 + j)))) (fun j => [(0, .ref (ad 0)), (1, .int (nI q)), (2, .int (nI la)), (3, .int (nI lb)), (5, .int (nI j))]) (fun j => j ≤ xls z lb - 1) (fun j => xls z lb - j) ?_ 0 (Nat.zero_le _)
      intro j hj ih
      refine tw_iload C dX0_fill_139 rfl ?_
      refine tw_aload_n C dX0_fill_141 rfl ?_
      refine tt_get_ls C dX0_fill_142 ?_
      refine tw_iload_n C dX0_fill_145 rfl ?_
      refine tt_ld_ls C (xls z lb - 1) dX0_fill_146 (by omega) (updN_at _ _ _) ?_
      refine tn_icmp_ge C 168 dX0_fill_147 (by decide) (by omega) (by omega)  (fun hb3 => ?_) (fun hb3 => ?_)
      · have he : j = xls z lb - 1 := by omega
        subst he
        refine tw_goto C 237 dX0_fill_168 (by decide) ?_
        refine tw_vret C (rmN (fl2 z la lb) lb 0) dX0_fill_237 (by unfold rmN; rw [d5]) ?_
        refine hfin _ ⟨d1, d2, d3, rfl, [EL z la ++ [ent z lb 0], mapR (xls z lb - 1) (fun j => ent z lb (1 + j))], d4, ?_, ?_, ?_⟩
        · show (EL z la ++ [ent z lb 0]) ++ (mapR (xls z lb - 1) (fun j => ent z lb (1 + j)) ++ []) = EL z la ++ EL z lb
          rw [List.append_nil, show EL z lb = ent z lb 0 :: mapR (xls z lb - 1) (fun j => ent z lb (1 + j)) by
            unfold EL
            conv => lhs; rw [show xls z lb = 1 + (xls z lb - 1) by omega]
            exact mapR_add 1 _ _]
          simp only [List.append_assoc, List.cons_append, List.nil_append]
        · intro E hE
          rcases List.mem_cons.mp hE with y | y
          · rw [y, List.length_append, EL_len, List.length_singleton]; omega
          · rw [List.mem_singleton.mp y, mapR_len]; omega
        · exact Nat.le_refl _
      · refine tw_aload_n C dX0_fill_150 rfl ?_
        refine tw_iload_n C dX0_fill_151 rfl ?_
        refine tw_iload C dX0_fill_152 rfl ?_
        refine tw_iconst C (nI 1) dX0_fill_154 (by decide) ?_
        refine tn_iadd C dX0_fill_155 ?_
        refine tw_iload_n C dX0_fill_156 rfl ?_
        refine tw_iload C dX0_fill_157 rfl ?_
        refine tt_callv4 C (t_copyEntry (slv (slk (sls (fl2 z la lb) (updN (xls (fl2 z la lb)) lb (xls z lb - 1))) (shD (xlk (fl2 z la lb)) (lb * 5 + 0) (lb * 5 + j))) (shD (xlv (fl2 z la lb)) (lb * 5 + 0) (lb * 5 + j))) lb (j + 1) lb j (Bd_lv (Bd_lk (Bd_ls hB2 (updN_le hB2.2.1 (by omega))) (shD_lt hB2.2.2.1))) (by omega) (by omega)) rfl q100 q102 qs7 q103 (by decide +kernel) (by decide) (by decide) (Nat.le_of_ble_eq_true rfl) dX0_fill_159  (fun w hw => ?_)
        subst hw
        refine tn_inc C dX0_fill_162 rfl (by decide) rfl ?_
        refine tw_goto C 139 dX0_fill_165 (by decide) ?_
        refine tt_st ?_ (ih (j + 1) (by omega) (by omega))
        unfold cpE
        rw [show xlk (slv (slk (sls (fl2 z la lb) (updN (xls (fl2 z la lb)) lb (xls z lb - 1))) (shD (xlk (fl2 z la lb)) (lb * 5 + 0) (lb * 5 + j))) (shD (xlv (fl2 z la lb)) (lb * 5 + 0) (lb * 5 + j))) (lb * 5 + (j + 1)) = xlk (fl2 z la lb) (lb * 5 + j + 1) from shD_hi _ (by omega), show xlv (slv (slk (sls (fl2 z la lb) (updN (xls (fl2 z la lb)) lb (xls z lb - 1))) (shD (xlk (fl2 z la lb)) (lb * 5 + 0) (lb * 5 + j))) (shD (xlv (fl2 z la lb)) (lb * 5 + 0) (lb * 5 + j))) (lb * 5 + (j + 1)) = xlv (fl2 z la lb) (lb * 5 + j + 1) from shD_hi _ (by omega), show lb * 5 + (j + 1) = lb * 5 + j + 1 from rfl, ← shD_stepN (xlk (fl2 z la lb)) (b := lb * 5 + j) (by omega), ← shD_stepI (xlv (fl2 z la lb)) (b := lb * 5 + j) (by omega)]
  · -- one leaf for both
    obtain ⟨d0, d1, d2, d3, d5, d4⟩ := F1 (by omega)
    refine tw_iconst C (nI 0) dX0_fill_35 (by decide) ?_
    refine tw_istore C dX0_fill_36 (by decide) rfl ?_
    refine tt_st (y := slv (slk z (cpy (xlk z) (lb * 5) (la * 5 + xls z la) 0)) (cpy (xlv z) (lb * 5) (la * 5 + xls z la) 0)) (by rw [cpy_0, cpy_0]) ?_
    refine tw_loop (fun j => wT ad dB dI (slv (slk z (cpy (xlk z) (lb * 5) (la * 5 + xls z la) j)) (cpy (xlv z) (lb * 5) (la * 5 + xls z la) j))) (fun j => [(0, .ref (ad 0)), (1, .int (nI q)), (2, .int (nI la)), (3, .int (nI lb)), (4, .int (nI (xls z la + xls z lb))), (5, .int (nI j))]) (fun j => j ≤ xls z lb) (fun j => xls z lb - j) ?_ 0 (Nat.zero_le _)
    intro j hj ih
    refine tw_iload C dX0_fill_38 rfl ?_
    refine tw_aload_n C dX0_fill_40 rfl ?_
    refine tt_get_ls C dX0_fill_41 ?_
    refine tw_iload_n C dX0_fill_44 rfl ?_
    refine tt_ld_ls C (xls z lb) dX0_fill_45 (by omega) rfl ?_
    refine tn_icmp_ge C 72 dX0_fill_46 (by decide) (by omega) (by omega)  (fun hb3 => ?_) (fun hb3 => ?_)
    · have he : j = xls z lb := by omega
      subst he
      refine tw_aload_n C dX0_fill_72 rfl ?_
      refine tt_get_ls C dX0_fill_73 ?_
      refine tw_iload_n C dX0_fill_76 rfl ?_
      refine tw_iload C dX0_fill_77 rfl ?_
      refine tn_i2b C dX0_fill_79 (by omega) ?_
      refine tt_st_ls C dX0_fill_80 (by omega) (by omega) ?_
      refine tw_aload_n C dX0_fill_81 rfl ?_
      refine tw_iload_n C dX0_fill_82 rfl ?_
      refine tw_iconst C (nI 1) dX0_fill_83 (by decide) ?_
      refine tn_iadd C dX0_fill_84 ?_
      refine tt_st (y := fl1 z la lb) rfl ?_
      refine tt_callv1 C (t_dropLeaf (fl1 z la lb) (q + 1) d0.1 hqz (by show 1 ≤ xlu z (xrl z (xwk z * 17 + (q + 1))); rw [lvq]; exact d5)) rfl q124 q126 qs12 q127 (by decide +kernel) (by decide) (by decide) (Nat.le_of_ble_eq_true rfl) dX0_fill_85  (fun w hw => ?_)
      subst hw
      refine tw_goto C 237 dX0_fill_88 (by decide) ?_
      refine tw_vret C (drpL (fl1 z la lb) (q + 1)) dX0_fill_237 rfl ?_
      refine hfin _ ⟨d1, d2, d3, rfl, [EL z la ++ EL z lb], d4, ?_, ?_, ?_⟩
      · show (EL z la ++ EL z lb) ++ [] = EL z la ++ EL z lb
        rw [List.append_nil]
      · intro E hE
        rw [List.mem_singleton.mp hE, List.length_append, EL_len, EL_len]
        omega
      · show 1 ≤ 2; decide
    · refine tw_aload_n C dX0_fill_49 rfl ?_
      refine tw_iload_n C dX0_fill_50 rfl ?_
      refine tw_iload C dX0_fill_51 rfl ?_
      refine tw_iload_n C dX0_fill_53 rfl ?_
      refine tw_aload_n C dX0_fill_54 rfl ?_
      refine tt_get_ls C dX0_fill_55 ?_
      refine tw_iload_n C dX0_fill_58 rfl ?_
      refine tt_ld_ls C (xls z la) dX0_fill_59 (by omega) rfl ?_
      refine tw_iload C dX0_fill_60 rfl ?_
      refine tn_iadd C dX0_fill_62 ?_
      refine tt_callv4 C (t_copyEntry (slv (slk z (cpy (xlk z) (lb * 5) (la * 5 + xls z la) j)) (cpy (xlv z) (lb * 5) (la * 5 + xls z la) j)) lb j la (xls z la + j) (Bd_lv (Bd_lk hB (cpy_lt hB.2.2.1))) (by omega) (by omega)) rfl q100 q102 qs7 q103 (by decide +kernel) (by decide) (by decide) (Nat.le_of_ble_eq_true rfl) dX0_fill_63  (fun w hw => ?_)
      subst hw
      refine tn_inc C dX0_fill_66 rfl (by decide) rfl ?_
      refine tw_goto C 38 dX0_fill_69 (by decide) ?_
      refine tt_st ?_ (ih (j + 1) (by omega) (by omega))
      unfold cpE
      rw [show xlk (slv (slk z (cpy (xlk z) (lb * 5) (la * 5 + xls z la) j)) (cpy (xlv z) (lb * 5) (la * 5 + xls z la) j)) (lb * 5 + j) = xlk z (lb * 5 + j) from cpy_out _ (by omega), show xlv (slv (slk z (cpy (xlk z) (lb * 5) (la * 5 + xls z la) j)) (cpy (xlv z) (lb * 5) (la * 5 + xls z la) j)) (lb * 5 + j) = xlv z (lb * 5 + j) from cpy_out _ (by omega), show la * 5 + (xls z la + j) = la * 5 + xls z la + j by omega, ← cpy_stepN, ← cpy_stepI]
end WALK9
end
section
set_option maxRecDepth 100000
section WALK10
variable {l : Launch} {D : va_G} {ad : Nat → Nat} {dB dI : ClassId}
theorem t_remove (x : St) (k : Int32) (h : INV x) : TMi l yX0_remove cX0_remove 6 (some .boolean) 3 D (tyT dB dI) [.ref (ad 0), .int k] (wT ad dB dI x) (wT ad dB dI) (fun a u => (a = 0 ∧ (∀ e ∈ FL x (xwk x), nI e.1 ≠ k) ∧ u = x) ∨ (a = 1 ∧ ∃ K, K < 32 ∧ k = nI K ∧ INV u ∧ VV x u ∧ RemR (FL x (xwk x)) (FL u (xwk u)) K)) := by
  refine TMi.of (by decide) (Nat.le_of_ble_eq_true rfl) (fun p e s m below meth c A C => ?_)
  have hB := h.1.1
  have hw8 : xwk x < 8 := hB.2.2.2.2.2.2.2
  have hW0 : WF x (xwk x) := h.2 _ hw8 (wk_live h.1)
  obtain ⟨L1, L2, cF, c1, c2, -, c4, c5⟩ := tab_cut hB hW0.2.2.2 (fun i hi => by rw [← EL_len]; exact (hW0.2.1 _ (SH_mem.mpr ⟨i, hi, rfl⟩)).1) k
  refine tw_aload_n C dX0_remove_0 rfl ?_
  refine tw_aload_n C dX0_remove_1 rfl ?_
  refine tt_get_wk C (xwk x) dX0_remove_2 rfl ?_
  refine tw_iload_n C dX0_remove_5 rfl ?_
  refine tt_calli2 C (t_cellOf x (xwk x) k hB hw8) rfl q116 q118 qs10 q119 (by decide +kernel) (by decide) (by decide) (Nat.le_of_ble_eq_true rfl) dX0_remove_6  (fun a u hu => ?_)
  obtain ⟨rfl, rfl⟩ := hu
  rw [celI_O]
  cases hc : celO u (xwk u) k with
  | none =>
    refine tw_if_ge C 14 dX0_remove_9 (by decide)  (fun hb => ?_) (fun hb => ?_)
    · exact absurd hb (by decide)
    · refine tw_iconst C (nI 0) dX0_remove_12 (by decide) ?_
      refine tw_iret C u dX0_remove_13 rfl rfl (Or.inl ⟨rfl, fun e he => ?_, rfl⟩)
      rw [cF] at he
      rcases List.mem_append.mp he with y | y
      · intro ek
        have := c1 e y
        rw [ek] at this
        exact Int32.lt_irrefl this
      · exact c5 hc e y
  | some cc0 =>
    obtain ⟨hk, M0, hM⟩ := c4 cc0 hc
    have hcl := celO_lt hB hc
    have hKm : (xlk u cc0, xlv u cc0) ∈ FL u (xwk u) := by rw [cF, hM]; exact List.mem_append_right _ List.mem_cons_self
    have hK := hB.2.2.1 cc0
    obtain ⟨K, hKe⟩ : ∃ K, K = xlk u cc0 := ⟨_, rfl⟩
    rw [← hKe] at hk hKm hK
    subst hk
    clear c1 c2 c4 c5 cF hM hKe
    refine tn_if_ge C 14 dX0_remove_9 (by decide) (by omega) ?_
    refine tw_aload_n C dX0_remove_14 rfl ?_
    refine tt_callv0 C (t_ownRoot u h) rfl q72 q74 qs0 q75 (by decide +kernel) (by decide) (by decide) (Nat.le_of_ble_eq_true rfl) dX0_remove_15  (fun x1 g1 => ?_)
    obtain ⟨hI, hV1, hu1, eS⟩ := g1
    have hB1 := hI.1.1
    have hw81 : xwk x1 < 8 := hB1.2.2.2.2.2.2.2
    have hW1 : WF x1 (xwk x1) := hI.2 _ hw81 (wk_live hI.1)
    have hF1 : FL x1 (xwk x1) = FL u (xwk u) := by unfold FL; rw [eS]
    have hs1 : srt (FL x1 (xwk x1)) := hW1.2.2.2
    refine tw_aload_n C dX0_remove_18 rfl ?_
    refine tw_aload_n C dX0_remove_19 rfl ?_
    refine tt_get_wk C (xwk x1) dX0_remove_20 rfl ?_
    refine tw_iload_n C dX0_remove_23 rfl ?_
    refine tt_calli2 C (t_placeOf x1 (xwk x1) (nI K) hB1 hw81) rfl q84 q86 qs3 q87 (by decide +kernel) (by decide) (by decide) (Nat.le_of_ble_eq_true rfl) dX0_remove_24  (fun a x1b hu => ?_)
    obtain ⟨rfl, rfl⟩ := hu
    have h0 : xrs x1b (xwk x1b) ≠ 0 := fun e0 => by
      rw [← hF1] at hKm
      unfold FL SH at hKm
      rw [e0] at hKm
      exact absurd hKm List.not_mem_nil
    have e1 : plI x1b (xwk x1b) (nI K) = nI (plc x1b (xwk x1b) (nI K) (xrs x1b (xwk x1b) - 1)) := by unfold plI; rw [if_neg h0]
    have hpc := place_cut hB1 hs1 (fun i hi => by rw [← EL_len]; exact (hW1.2.1 _ (SH_mem.mpr ⟨i, hi, rfl⟩)).1) h0 (nI K)
    have b2 := plc_le x1b (xwk x1b) (nI K) (xrs x1b (xwk x1b) - 1)
    have b3 := hB1.2.2.2.2.1 (xwk x1b)
    rw [e1]
    generalize plc x1b (xwk x1b) (nI K) (xrs x1b (xwk x1b) - 1) = q at hpc b2 ⊢
    have hq : q < xrs x1b (xwk x1b) := by omega
    rw [SH_take hq, SH_drop hq] at hpc
    refine tw_istore_n C dX0_remove_27 (by decide) rfl ?_
    refine tw_aload_n C dX0_remove_28 rfl ?_
    refine tw_iload_n C dX0_remove_29 rfl ?_
    refine tt_calli1 C (t_ownLeaf x1b q hI.1 hI.oi hu1 hq) rfl q96 q98 qs6 q99 (by decide +kernel) (by decide) (by decide) (Nat.le_of_ble_eq_true rfl) dX0_remove_30  (fun a x3 h3 => ?_)
    obtain ⟨rfl, hC3, hO3, hV3, f1, f2, f3, hl3, f4, -, -⟩ := h3
    have hP : PlS (SH x3 (xwk x3)) q (nI K) := by rw [f4]; exact hpc
    have hW3 : WFs (SH x3 (xwk x3)) := by rw [f4]; exact hW1
    have hF3 : FL x3 (xwk x3) = FL u (xwk u) := by rw [← hF1]; unfold FL; rw [f4]
    have hV03 := VV.trans hV1 hV3
    have h13 : xru x3 (xwk x3) = 1 := by rw [f2, f1]; exact hu1
    have hq3 : q < xrs x3 (xwk x3) := by rw [f3, f1]; exact hq
    have hB3 := hC3.1
    have hs3 : srt (FL x3 (xwk x3)) := hW3.2.2.2
    rw [← hF3] at hKm
    clear f1 f2 f3 f4 hpc hI hV1 hu1 eS hB1 hw81 hW1 hF1 hs1 h0 e1 hq hV3 b2 b3
    have hE := hW3.2.1 _ (SH_mem.mpr ⟨q, hq3, rfl⟩)
    rw [EL_len] at hE
    have hrs : xrs x3 (xwk x3) ≤ 16 := by rw [← SH_len]; exact hW3.1
    have hE2 : 2 ≤ xrs x3 (xwk x3) → ∀ i, i < xrs x3 (xwk x3) → 2 ≤ xls x3 (lvs x3 (xwk x3) i) ∧ xls x3 (lvs x3 (xwk x3) i) ≤ 4 := fun h2 i hi => by
      have a1 := hW3.2.2.1 (by rw [SH_len]; exact h2) _ (SH_mem.mpr ⟨i, hi, rfl⟩)
      have a2 := hW3.2.1 _ (SH_mem.mpr ⟨i, hi, rfl⟩)
      rw [EL_len] at a1 a2
      exact ⟨a1, a2.2⟩
    obtain ⟨hbi, hbk⟩ := rem_pos hB3 hs3 hq3 hP hK hKm
    have n0 := P_rmN0 hC3 hO3 h13 hq3 hl3 hbi
    have nR := P_rmN hC3 hO3 h13 hq3 hl3 hbi hbk
    have blf := lvs_lt hB3 (xwk x3) q
    have ow := (own1 hC3 hq3 hl3).1
    have lvz : ∀ i, lvs (rmN x3 (lvs x3 (xwk x3) q) (bel x3 (lvs x3 (xwk x3) q) (nI K))) (xwk x3) i = lvs x3 (xwk x3) i := fun _ => rfl
    refine tw_istore_n C dX0_remove_33 (by decide) rfl ?_
    refine tw_aload_n C dX0_remove_34 rfl ?_
    refine tw_iload_n C dX0_remove_35 rfl ?_
    refine tw_iload_n C dX0_remove_36 rfl ?_
    refine tt_calli2 C (t_below x3 (lvs x3 (xwk x3) q) (nI K) hB3 blf) rfl q104 q106 qs8 q107 (by decide +kernel) (by decide) (by decide) (Nat.le_of_ble_eq_true rfl) dX0_remove_37  (fun a z hz => ?_)
    obtain ⟨rfl, rfl⟩ := hz
    have hE2q := fun h2 => hE2 h2 q hq3
    generalize hlf : lvs z (xwk z) q = lf at n0 nR hbi hbk blf hE hl3 ow lvz hE2q ⊢
    generalize bel z lf (nI K) = i at n0 nR hbi hbk lvz ⊢
    obtain ⟨n1, n2, n3, n5⟩ := n0
    have b5 := hB3.2.1 lf
    refine tw_istore C dX0_remove_40 (by decide) rfl ?_
    refine tw_aload_n C dX0_remove_42 rfl ?_
    refine tt_get_ls C dX0_remove_43 ?_
    refine tw_iload_n C dX0_remove_46 rfl ?_
    refine tw_dup2 C dX0_remove_47 rfl rfl ?_
    refine tt_ld_ls C (xls z lf) dX0_remove_48 (by omega) rfl ?_
    refine tw_iconst C (nI 1) dX0_remove_49 (by decide) ?_
    refine tn_isub C dX0_remove_50 (by omega) ?_
    refine tn_i2b C dX0_remove_51 (by omega) ?_
    refine tt_st_ls C dX0_remove_52 (by omega) (by omega) ?_
    refine tw_iload C dX0_remove_53 rfl ?_
    refine tw_istore C dX0_remove_55 (by decide) rfl ?_
    refine tt_st (y := slv (slk (sls z (updN (xls z) lf (xls z lf - 1))) (shD (xlk z) (lf * 5 + i) (lf * 5 + i))) (shD (xlv z) (lf * 5 + i) (lf * 5 + i))) (by rw [shD_0, shD_0]) ?_
    refine tw_loop (fun j => wT ad dB dI (slv (slk (sls z (updN (xls z) lf (xls z lf - 1))) (shD (xlk z) (lf * 5 + i) (lf * 5 + j))) (shD (xlv z) (lf * 5 + i) (lf * 5 + j)))) (fun j => [(0, .ref (ad 0)), (1, .int (nI K)), (2, .int (nI q)), (3, .int (nI lf)), (4, .int (nI i)), (5, .int (nI j))]) (fun j => i ≤ j ∧ j ≤ xls z lf - 1) (fun j => xls z lf - j) ?_ i ⟨Nat.le_refl _, by omega⟩
    intro j hj ih
    obtain ⟨hj1, hj2⟩ := hj
    refine tw_iload C dX0_remove_57 rfl ?_
    refine tw_aload_n C dX0_remove_59 rfl ?_
    refine tt_get_ls C dX0_remove_60 ?_
    refine tw_iload_n C dX0_remove_63 rfl ?_
    refine tt_ld_ls C (xls z lf - 1) dX0_remove_64 (by omega) (updN_at _ _ _) ?_
    refine tn_icmp_ge C 86 dX0_remove_65 (by decide) (by omega) (by omega)  (fun hb => ?_) (fun hb => ?_)
    rotate_left
    · refine tw_aload_n C dX0_remove_68 rfl ?_
      refine tw_iload_n C dX0_remove_69 rfl ?_
      refine tw_iload C dX0_remove_70 rfl ?_
      refine tw_iconst C (nI 1) dX0_remove_72 (by decide) ?_
      refine tn_iadd C dX0_remove_73 ?_
      refine tw_iload_n C dX0_remove_74 rfl ?_
      refine tw_iload C dX0_remove_75 rfl ?_
      refine tt_callv4 C (t_copyEntry (slv (slk (sls z (updN (xls z) lf (xls z lf - 1))) (shD (xlk z) (lf * 5 + i) (lf * 5 + j))) (shD (xlv z) (lf * 5 + i) (lf * 5 + j))) lf (j + 1) lf j (Bd_lv (Bd_lk (Bd_ls hB3 (updN_le hB3.2.1 (by omega))) (shD_lt hB3.2.2.1))) (by omega) (by omega)) rfl q100 q102 qs7 q103 (by decide +kernel) (by decide) (by decide) (Nat.le_of_ble_eq_true rfl) dX0_remove_77  (fun w hw => ?_)
      subst hw
      refine tn_inc C dX0_remove_80 rfl (by decide) rfl ?_
      refine tw_goto C 57 dX0_remove_83 (by decide) ?_
      refine tt_st ?_ (ih (j + 1) ⟨by omega, by omega⟩ (by omega))
      unfold cpE
      rw [show xlk (slv (slk (sls z (updN (xls z) lf (xls z lf - 1))) (shD (xlk z) (lf * 5 + i) (lf * 5 + j))) (shD (xlv z) (lf * 5 + i) (lf * 5 + j))) (lf * 5 + (j + 1)) = xlk z (lf * 5 + j + 1) from shD_hi _ (by omega), show xlv (slv (slk (sls z (updN (xls z) lf (xls z lf - 1))) (shD (xlk z) (lf * 5 + i) (lf * 5 + j))) (shD (xlv z) (lf * 5 + i) (lf * 5 + j))) (lf * 5 + (j + 1)) = xlv z (lf * 5 + j + 1) from shD_hi _ (by omega), show lf * 5 + (j + 1) = lf * 5 + j + 1 from rfl, ← shD_stepN (xlk z) (b := lf * 5 + j) (by omega), ← shD_stepI (xlv z) (b := lf * 5 + j) (by omega)]
    have he : j = xls z lf - 1 := by omega
    subst he
    refine tt_st (y := rmN z lf i) rfl ?_
    have hsr : srt (FL (rmN z lf i) (xwk z)) := nR.sorted hs3
    have hlsn : xls (rmN z lf i) lf = xls z lf - 1 := updN_at _ _ _
    have hElen : (mapR i (ent z lf) ++ mapR (xls z lf - 1 - i) (fun j => ent z lf (i + 1 + j))).length = xls z lf - 1 := by
      rw [List.length_append, mapR_len, mapR_len]; omega
    have hWtd := hW3.p
    rw [SH_td hq3, hlf] at hWtd
    have hSl : (SH z (xwk z)).length = xrs z (xwk z) := SH_len _ _
    rw [hF3] at nR
    refine tw_aload_n C dX0_remove_86 rfl ?_
    refine tt_get_ls C dX0_remove_87 ?_
    refine tw_iload_n C dX0_remove_90 rfl ?_
    refine tt_ld_ls C (xls z lf - 1) dX0_remove_91 (by omega) hlsn ?_
    refine tw_iconst C (nI 2) dX0_remove_92 (by decide) ?_
    have hkeep : 1 ≤ xls z lf - 1 → (2 ≤ xls z lf - 1 ∨ xrs z (xwk z) ≤ 1) → INV (rmN z lf i) := fun g1 g2 => by
      refine INV_of n1 n2 ?_
      show WFs (SH (rmN z lf i) (xwk z))
      unfold FL at hsr
      rw [n5] at hsr ⊢
      obtain ⟨w1, w2, w3, w4⟩ := hW3
      have el : ((SH z (xwk z)).take q ++ (mapR i (ent z lf) ++ mapR (xls z lf - 1 - i) (fun j => ent z lf (i + 1 + j))) :: (SH z (xwk z)).drop (q + 1)).length = xrs z (xwk z) := by
        rw [List.length_append, List.length_cons, List.length_take, List.length_drop, hSl]; omega
      have hmem : ∀ E, E ∈ (SH z (xwk z)).take q ++ (mapR i (ent z lf) ++ mapR (xls z lf - 1 - i) (fun j => ent z lf (i + 1 + j))) :: (SH z (xwk z)).drop (q + 1) → E = (mapR i (ent z lf) ++ mapR (xls z lf - 1 - i) (fun j => ent z lf (i + 1 + j))) ∨ E ∈ SH z (xwk z) := fun E hE => by
        rcases List.mem_append.mp hE with y | y
        · exact Or.inr (List.mem_of_mem_take y)
        · rcases List.mem_cons.mp y with y | y
          · exact Or.inl y
          · exact Or.inr (List.mem_of_mem_drop y)
      refine ⟨by rw [el]; exact hrs, fun E hE => ?_, fun g3 E hE => ?_, hsr⟩
      · rcases hmem E hE with y | y
        · rw [y, hElen]; omega
        · exact w2 E y
      · rw [el] at g3
        rcases hmem E hE with y | y
        · rw [y, hElen]; omega
        · exact w3 (by rw [hSl]; exact g3) E y
    refine tn_icmp_ge C 127 dX0_remove_93 (by decide) (by omega) (by omega)  (fun hb2 => ?_) (fun hb2 => ?_)
    · refine tw_aload_n C dX0_remove_127 rfl ?_
      refine tt_get_ls C dX0_remove_128 ?_
      refine tw_iload_n C dX0_remove_131 rfl ?_
      refine tt_ld_ls C (xls z lf - 1) dX0_remove_132 (by omega) hlsn ?_
      refine tn_if_ne C 141 dX0_remove_133 (by decide) (by omega)  (fun hb3 => ?_) (fun hb3 => ?_)
      · refine tw_iconst C (nI 1) dX0_remove_141 (by decide) ?_
        exact tw_iret C (rmN z lf i) dX0_remove_142 rfl rfl (Or.inr ⟨rfl, K, hK, rfl, hkeep (by omega) (Or.inl hb2), VV.trans hV03 n3, nR⟩)
      · omega
    · refine tw_aload_n C dX0_remove_96 rfl ?_
      refine tt_get_rs C dX0_remove_97 ?_
      refine tw_aload_n C dX0_remove_100 rfl ?_
      refine tt_get_wk C (xwk z) dX0_remove_101 rfl ?_
      refine tt_ld_rs C (xrs z (xwk z)) dX0_remove_104 (hB3.2.2.2.2.2.2.2) rfl ?_
      refine tw_iconst C (nI 1) dX0_remove_105 (by decide) ?_
      refine tn_icmp_le C 127 dX0_remove_106 (by decide) (by omega) (by omega)  (fun hb3 => ?_) (fun hb3 => ?_)
      · refine tw_aload_n C dX0_remove_127 rfl ?_
        refine tt_get_ls C dX0_remove_128 ?_
        refine tw_iload_n C dX0_remove_131 rfl ?_
        refine tt_ld_ls C (xls z lf - 1) dX0_remove_132 (by omega) hlsn ?_
        refine tn_if_ne C 141 dX0_remove_133 (by decide) (by omega)  (fun hb4 => ?_) (fun hb4 => ?_)
        · refine tw_iconst C (nI 1) dX0_remove_141 (by decide) ?_
          exact tw_iret C (rmN z lf i) dX0_remove_142 rfl rfl (Or.inr ⟨rfl, K, hK, rfl, hkeep (by omega) (Or.inr hb3), VV.trans hV03 n3, nR⟩)
        · have hq0 : q = 0 := by omega
          have hr1 : xrs z (xwk z) = 1 := by omega
          obtain ⟨d1, d2, d3, d4, d5⟩ := P_drp (x := rmN z lf i) (q := q) n1 n2 h13 hq3
          refine tw_aload_n C dX0_remove_136 rfl ?_
          refine tw_iload_n C dX0_remove_137 rfl ?_
          refine tt_callv1 C (t_dropLeaf (rmN z lf i) q n1.1 hq3 d4) rfl q124 q126 qs12 q127 (by decide +kernel) (by decide) (by decide) (Nat.le_of_ble_eq_true rfl) dX0_remove_138  (fun w hw => ?_)
          subst hw
          refine tw_iconst C (nI 1) dX0_remove_141 (by decide) ?_
          have hwk : xwk (drpL (rmN z lf i) q) = xwk z := rfl
          have d5' : SH (drpL (rmN z lf i) q) (xwk z) = [] := by
            rw [show SH (drpL (rmN z lf i) q) (xwk z) = _ from d5]
            rw [show xrs (rmN z lf i) (xwk (rmN z lf i)) = 1 from hr1, hq0]
            rfl
          have eFr : FL (rmN z lf i) (xwk z) = [] := by
            unfold FL
            rw [n5, hq0, List.take_zero, List.drop_of_length_le (by rw [hSl]; omega), List.eq_nil_of_length_eq_zero (hElen.trans hb4)]
            rfl
          refine tw_iret C (drpL (rmN z lf i) q) dX0_remove_142 rfl rfl (Or.inr ⟨rfl, K, hK, rfl, INV_of d1 d2 ?_, VV.trans (VV.trans hV03 n3) d3, ?_⟩)
          · show WFs (SH (drpL (rmN z lf i) q) (xwk z))
            rw [d5']
            exact ⟨by decide, fun E hE => absurd hE List.not_mem_nil, fun g => absurd g (by decide), srt_nil⟩
          · rw [hwk, show FL (drpL (rmN z lf i) q) (xwk z) = [] by unfold FL; rw [d5']; rfl, ← eFr]
            exact nR
      · have hn2 : xls z lf = 2 := by have := (hE2q (by omega)).1; omega
        have elo : ∀ j, j < xrs z (xwk z) → j ≠ q → xls (rmN z lf i) (lvs z (xwk z) j) = xls z (lvs z (xwk z) j) := fun j hj hne => updN_ne (fun e => hne (ow j hj e))
        have fillpost : ∀ (p0 : Nat) (w : St), p0 + 1 < xrs z (xwk z) → (p0 = q ∨ p0 + 1 = q) → FilR (rmN z lf i) p0 w → INV w ∧ VV u w ∧ RemR (FL u (xwk u)) (FL w (xwk w)) K := by
          intro p0 w hp0 hp0q hw
          obtain ⟨a1, a2, a3, a4, M, b1, b2, b3, b4⟩ := hw
          have a4' : xwk w = xwk z := a4
          have b1' : SH w (xwk z) = (SH (rmN z lf i) (xwk z)).take p0 ++ (M ++ (SH (rmN z lf i) (xwk z)).drop (p0 + 2)) := b1
          have b2' : M.flatten = EL (rmN z lf i) (lvs z (xwk z) p0) ++ EL (rmN z lf i) (lvs z (xwk z) (p0 + 1)) := b2
          have eFL : FL w (xwk z) = FL (rmN z lf i) (xwk z) := by
            unfold FL
            rw [b1']
            have t1 := SH_td (x := rmN z lf i) (r := xwk z) (q := p0) (show p0 < xrs z (xwk z) by omega)
            have t2 : (SH (rmN z lf i) (xwk z)).drop (p0 + 1) = EL (rmN z lf i) (lvs (rmN z lf i) (xwk z) (p0 + 1)) :: (SH (rmN z lf i) (xwk z)).drop (p0 + 2) := by
              have t3 := SH_td (x := rmN z lf i) (r := xwk z) (q := p0 + 1) hp0
              have hlen : ((SH (rmN z lf i) (xwk z)).take (p0 + 1)).length = p0 + 1 := by rw [List.length_take, SH_len]; show min (p0 + 1) (xrs z (xwk z)) = _; omega
              conv => lhs; rw [t3]
              rw [List.drop_append, hlen, Nat.sub_self, List.drop_of_length_le (by rw [hlen]; exact Nat.le_refl _)]
              rfl
            conv => rhs; rw [t1, t2]
            rw [List.flatten_append, List.flatten_append, b2', List.flatten_append, List.flatten_cons, List.flatten_cons, lvz, lvz]
            simp only [List.append_assoc]
          have hsw : srt (FL w (xwk z)) := by rw [eFL]; exact hsr
          have hSr : (SH (rmN z lf i) (xwk z)).length = xrs z (xwk z) := SH_len _ _
          have hoth : ∀ j, j < xrs z (xwk z) → j ≠ p0 → j ≠ p0 + 1 → 2 ≤ (EL (rmN z lf i) (lvs z (xwk z) j)).length ∧ (EL (rmN z lf i) (lvs z (xwk z) j)).length ≤ 4 := fun j hj g1 g2 => by
            rw [EL_len, elo j hj (by omega)]
            exact hE2 (by omega) j hj
          have hall : ∀ E ∈ SH w (xwk z), 2 ≤ E.length ∧ E.length ≤ 4 := fun E hE => by
            rw [b1'] at hE
            rcases List.mem_append.mp hE with y | y
            · rw [← SH_take (x := rmN z lf i) (r := xwk z) (q := p0) (show p0 < xrs z (xwk z) by omega)] at y
              obtain ⟨j, hj, rfl⟩ := mapR_mem.mp y
              exact hoth j (by omega) (by omega) (by omega)
            · rcases List.mem_append.mp y with y | y
              · exact b3 E y
              · rw [← SH_drop (x := rmN z lf i) (r := xwk z) (q := p0 + 1) hp0] at y
                obtain ⟨j, hj, rfl⟩ := mapR_mem.mp y
                have hj' : j < xrs z (xwk z) - 1 - (p0 + 1) := hj
                exact hoth (p0 + 1 + 1 + j) (by omega) (by omega) (by omega)
          refine ⟨INV_of a1 a2 ?_, VV.trans (VV.trans hV03 n3) a3, ?_⟩
          · rw [a4']
            refine ⟨?_, fun E hE => ⟨by have := (hall E hE).1; omega, (hall E hE).2⟩, fun _ E hE => (hall E hE).1, hsw⟩
            rw [b1', List.length_append, List.length_append, List.length_take, List.length_drop, hSr]
            omega
          · rw [a4', eFL]; exact nR
        refine tw_aload_n C dX0_remove_109 rfl ?_
        refine tw_iload_n C dX0_remove_110 rfl ?_
        refine tn_if_le C 120 dX0_remove_111 (by decide) (by omega) (fun hb4 => ?_) (fun hb4 => ?_)
        · subst hb4
          have h1sz := hE2 (by omega) 1 (by omega)
          refine tw_iconst C (nI 0) dX0_remove_120 (by decide) ?_
          refine tt_callv1 C (t_fill (rmN z lf i) 0 n1 n2 h13 (show 0 + 1 < xrs z (xwk z) by omega) (Or.inl ⟨by rw [show lvs (rmN z lf i) (xwk (rmN z lf i)) 0 = lf from hlf, hlsn]; omega, by rw [show xls (rmN z lf i) (lvs (rmN z lf i) (xwk (rmN z lf i)) (0 + 1)) = xls z (lvs z (xwk z) 1) from elo 1 (by omega) (by decide)]; exact h1sz⟩)) rfl q120 q122 qs11 q123 (by decide +kernel) (by decide) (by decide) (Nat.le_of_ble_eq_true rfl) dX0_remove_121  (fun w hw => ?_)
          refine tw_goto C 141 dX0_remove_124 (by decide) ?_
          refine tw_iconst C (nI 1) dX0_remove_141 (by decide) ?_
          obtain ⟨r1, r2, r3⟩ := fillpost 0 w (by omega) (Or.inl rfl) hw
          exact tw_iret C w dX0_remove_142 rfl rfl (Or.inr ⟨rfl, K, hK, rfl, r1, r2, r3⟩)
        · obtain ⟨a, rfl⟩ : ∃ a, q = a + 1 := ⟨q - 1, by omega⟩
          have h1sz := hE2 (by omega) a (by omega)
          refine tw_iload_n C dX0_remove_114 rfl ?_
          refine tw_iconst C (nI 1) dX0_remove_115 (by decide) ?_
          refine tn_isub C dX0_remove_116 (by omega) ?_
          refine tw_goto C 121 dX0_remove_117 (by decide) ?_
          refine tt_callv1 C (t_fill (rmN z lf i) a n1 n2 h13 hq3 (Or.inr ⟨by rw [show lvs (rmN z lf i) (xwk (rmN z lf i)) (a + 1) = lf from hlf, hlsn]; omega, by rw [show xls (rmN z lf i) (lvs (rmN z lf i) (xwk (rmN z lf i)) a) = xls z (lvs z (xwk z) a) from elo a (by omega) (by omega)]; exact h1sz⟩)) rfl q120 q122 qs11 q123 (by decide +kernel) (by decide) (by decide) (Nat.le_of_ble_eq_true rfl) dX0_remove_121  (fun w hw => ?_)
          refine tw_goto C 141 dX0_remove_124 (by decide) ?_
          refine tw_iconst C (nI 1) dX0_remove_141 (by decide) ?_
          obtain ⟨r1, r2, r3⟩ := fillpost a w hq3 (Or.inr rfl) hw
          exact tw_iret C w dX0_remove_142 rfl rfl (Or.inr ⟨rfl, K, hK, rfl, r1, r2, r3⟩)
end WALK10
end
section
set_option maxRecDepth 100000
theorem relS_SH (x : St) (r q : Nat) : SH (relS x r) q = SH x q := rfl
theorem P_rel {x : St} {r : Nat} (hB : Bd x) (hL : LU x) (hr : r < 8) (h1 : 1 ≤ xru x r) : Bd (relS x r) ∧ LU (relS x r) ∧ ∀ v, cntp (lvs x r) (xrs x r) v ≤ xlu x v := by
  have hge : ∀ v, cntp (lvs x r) (xrs x r) v ≤ xlu x v := by
    intro v
    rcases Nat.lt_or_ge v 96 with hv | hv
    · rw [hL v hv]
      have a1 := sm8_one (f := cr x v) hr
      have a2 : cr x v r = cntp (lvs x r) (xrs x r) v := by unfold cr; rw [if_pos (by omega)]
      omega
    · rw [cntp_none (fun i _ e => by have := lvs_lt hB r i; omega)]
      exact Nat.zero_le _
  refine ⟨?_, ?_, hge⟩
  · refine Bd_lu (Bd_ru hB (updN_lt hB.2.2.2.1 (by have := hB.2.2.2.1 r; omega))) (fun v => ?_)
    by_cases e : xru x r = 1
    · rw [if_pos e]
      show xlu x v - cntp (lvs x r) (xrs x r) v < 128
      have := hB.1 v
      omega
    · rw [if_neg e]; exact hB.1 v
  · have eru : ∀ q, xru (relS x r) q = updN (xru x) r (xru x r - 1) q := fun _ => rfl
    have elu : ∀ v, xlu (relS x r) v = (if xru x r = 1 then (fun v => xlu x v - cntp (lvs x r) (xrs x r) v) else xlu x) v := fun _ => rfl
    refine LU_of hL hr (fun v q hq e => ?_) (fun v hv => ?_)
    · have e1 : xru (relS x r) q = xru x q := by rw [eru, updN_ne e]
      unfold cr
      rw [e1]
      rfl
    · have e1 : xru (relS x r) r = xru x r - 1 := by rw [eru, updN_at]
      have a2 : cr x v r = cntp (lvs x r) (xrs x r) v := by unfold cr; rw [if_pos (by omega)]
      rw [elu, a2]
      by_cases e : xru x r = 1
      · rw [if_pos e]
        have a3 : cr (relS x r) v r = 0 := by unfold cr; rw [e1, if_neg (by omega)]
        rw [a3]
        have := hge v
        show xlu x v - cntp (lvs x r) (xrs x r) v + cntp (lvs x r) (xrs x r) v = xlu x v + 0
        omega
      · rw [if_neg e]
        have a3 : cr (relS x r) v r = cntp (lvs x r) (xrs x r) v := by unfold cr; rw [e1, if_pos (by omega)]; rfl
        rw [a3]
theorem LU_same {x y : St} (hL : LU x) (e1 : xlu y = xlu x) (e2 : xrs y = xrs x) (e3 : xrl y = xrl x) (hlv : ∀ r, r < 8 → (0 < xru y r ↔ 0 < xru x r)) : LU y := by
  intro v hv
  rw [e1, hL v hv]
  refine (sm8_congr (fun r hr => ?_)).symm
  have e4 : lvs y r = lvs x r := by unfold lvs; rw [e3]
  unfold cr
  by_cases h : 0 < xru x r
  · rw [if_pos h, if_pos ((hlv r hr).mpr h), e2, e4]
  · rw [if_neg h, if_neg (fun q => h ((hlv r hr).mp q))]
theorem ru_le {x : St} (h : CI x) {r : Nat} (hr : r < 8) : xru x r ≤ 5 := Nat.le_trans (sm8_one hr) (ru_sum h)
def SavR (x : St) (u : St) : Prop := INV u ∧ xwk u = xwk x ∧ SH u (xwk x) = SH x (xwk x) ∧ xla u = xla x + 1 ∧ xfk u = (if 4 ≤ xla x + 1 - xfk x then xla x + 1 - 3 else xfk x) ∧ ∀ n, xfk u ≤ n → n ≤ xla u → SH u (xvr u (n % 4)) = if n = xla x + 1 then SH x (xwk x) else SH x (xvr x (n % 4))
theorem P_save {x y u : St} {f : Nat} (h : INV x) (hB : Bd y) (hL : LU y) (hf : xfk x ≤ f) (hf1 : f ≤ xfk x + 1) (hla : xla x + 1 ≤ f + 3) (hf2 : f ≤ xla x + 1) (hru : ∀ r, r < 8 → xru y r = (if xwk x = r then 1 else 0) + cntp (fun i => xvr x ((f + i) % 4)) (xla x + 1 - f) r) (ey : ∀ r, SH y r = SH x r) (eyw : xwk y = xwk x) (eyv : xvr y = xvr x) (hu : u = sru (svr (sla (sfk y f) (xla x + 1)) (updN (xvr x) ((xla x + 1) % 4) (xwk x))) (updN (xru y) (xwk x) (xru y (xwk x) + 1))) (hff : f = (if 4 ≤ xla x + 1 - xfk x then xla x + 1 - 3 else xfk x)) : SavR x u := by
  have hC := h.1
  have hw8 : xwk x < 8 := hC.1.2.2.2.2.2.2.2
  have hV := hC.2.1
  have hV1 := hV.1
  have hV2 := hV.2.1
  subst hu
  have eru : ∀ r, xru (sru (svr (sla (sfk y f) (xla x + 1)) (updN (xvr x) ((xla x + 1) % 4) (xwk x))) (updN (xru y) (xwk x) (xru y (xwk x) + 1))) r = updN (xru y) (xwk x) (xru y (xwk x) + 1) r := fun _ => rfl
  have hyw : 1 ≤ xru y (xwk x) := by rw [hru _ hw8, if_pos rfl]; omega
  have hcle : ∀ r, cntp (fun i => xvr x ((f + i) % 4)) (xla x + 1 - f) r ≤ 4 := fun r => Nat.le_trans (cntp_le _ _ _) (by omega)
  have hlive : ∀ r, r < 8 → (0 < xru (sru (svr (sla (sfk y f) (xla x + 1)) (updN (xvr x) ((xla x + 1) % 4) (xwk x))) (updN (xru y) (xwk x) (xru y (xwk x) + 1))) r ↔ 0 < xru y r) := fun r hr => by
    rw [eru]
    by_cases e : r = xwk x
    · subst e; rw [updN_at]; omega
    · rw [updN_ne e]
  have hvr : ∀ n, f ≤ n → n ≤ xla x → updN (xvr x) ((xla x + 1) % 4) (xwk x) (n % 4) = xvr x (n % 4) := fun n h1 h2 => updN_ne (by omega)
  have hSHu : ∀ r, SH (sru (svr (sla (sfk y f) (xla x + 1)) (updN (xvr x) ((xla x + 1) % 4) (xwk x))) (updN (xru y) (xwk x) (xru y (xwk x) + 1))) r = SH x r := fun r => ey r
  refine ⟨⟨⟨?_, ?_, ?_, ?_⟩, ?_⟩, eyw, hSHu _, rfl, hff, ?_⟩
  · refine Bd_ru (Bd_vr (show Bd (sla (sfk y f) (xla x + 1)) from hB) (updN_lt hC.1.2.2.2.2.2.2.1 hw8)) (updN_lt hB.2.2.2.1 ?_)
    rw [hru _ hw8, if_pos rfl]
    have := hcle (xwk x)
    omega
  · show 1 ≤ f ∧ f ≤ xla x + 1 + 1 ∧ xla x + 1 ≤ f + 3
    omega
  · intro r hr
    rw [eru]
    show updN (xru y) (xwk x) (xru y (xwk x) + 1) r = (if xwk y = r then 1 else 0) + cntp (fun i => updN (xvr x) ((xla x + 1) % 4) (xwk x) ((f + i) % 4)) (xla x + 1 + 1 - f) r
    have e9 : updN (xvr x) ((xla x + 1) % 4) (xwk x) ((f + (xla x + 1 - f)) % 4) = xwk x := by rw [show f + (xla x + 1 - f) = xla x + 1 by omega, updN_at]
    have e8 : cntp (fun i => updN (xvr x) ((xla x + 1) % 4) (xwk x) ((f + i) % 4)) (xla x + 1 + 1 - f) r = cntp (fun i => xvr x ((f + i) % 4)) (xla x + 1 - f) r + (if xwk x = r then 1 else 0) := by
      rw [show xla x + 1 + 1 - f = (xla x + 1 - f) + 1 by omega]
      show cntp (fun i => updN (xvr x) ((xla x + 1) % 4) (xwk x) ((f + i) % 4)) (xla x + 1 - f) r + (if updN (xvr x) ((xla x + 1) % 4) (xwk x) ((f + (xla x + 1 - f)) % 4) = r then 1 else 0) = _
      rw [e9, cntp_congr (g := fun i => xvr x ((f + i) % 4)) (fun i hi => hvr (f + i) (by omega) (by omega))]
    rw [e8, eyw]
    have h3 := hru r hr
    by_cases e : r = xwk x
    · subst e
      rw [updN_at, if_pos rfl]
      rw [if_pos rfl] at h3
      omega
    · rw [updN_ne e, if_neg (fun q => e q.symm)]
      rw [if_neg (fun q => e q.symm)] at h3
      omega
  · exact LU_same hL rfl rfl rfl hlive
  · intro r hr hl
    show WFs (SH (sru (svr (sla (sfk y f) (xla x + 1)) (updN (xvr x) ((xla x + 1) % 4) (xwk x))) (updN (xru y) (xwk x) (xru y (xwk x) + 1))) r)
    rw [hSHu]
    refine h.2 r hr ?_
    have h3 := (hlive r hr).mp hl
    rw [hru r hr] at h3
    rw [hC.2.2.1 r hr]
    have h4 : cntp (fun i => xvr x ((f + i) % 4)) (xla x + 1 - f) r ≤ cntp (vrs x) (vn x) r := by
      rcases (show f = xfk x ∨ f = xfk x + 1 by omega) with e | e
      · subst e; exact Nat.le_refl _
      · rw [e, show vn x = 1 + (xla x + 1 - (xfk x + 1)) by unfold vn; omega, cntp_add, cntp_congr (f := fun i => xvr x ((xfk x + 1 + i) % 4)) (g := fun i => vrs x (1 + i)) (fun i hi => by show xvr x ((xfk x + 1 + i) % 4) = xvr x ((xfk x + (1 + i)) % 4); rw [Nat.add_assoc])]
        omega
    omega
  · intro n h1 h2
    show SH (sru (svr (sla (sfk y f) (xla x + 1)) (updN (xvr x) ((xla x + 1) % 4) (xwk x))) (updN (xru y) (xwk x) (xru y (xwk x) + 1))) (updN (xvr x) ((xla x + 1) % 4) (xwk x) (n % 4)) = _
    rw [hSHu]
    have h1' : f ≤ n := h1
    have h2' : n ≤ xla x + 1 := h2
    by_cases e : n = xla x + 1
    · rw [if_pos e, e, updN_at]
    · rw [if_neg e, hvr n h1' (by omega)]
def GbR (x : St) (N : Nat) (u : St) : Prop := INV u ∧ SH u (xwk u) = SH x (xvr x (N % 4)) ∧ xfk u = xfk x ∧ xla u = N ∧ ∀ n, xfk x ≤ n → n ≤ N → SH u (xvr u (n % 4)) = SH x (xvr x (n % 4))
def JG (x : St) (r1 mm : Nat) (u : St) : Prop := Bd u ∧ LU u ∧ (∀ r, r < 8 → xru u r = (if r1 = r then 1 else 0) + cntp (vrs x) (mm + 1 - xfk x) r) ∧ (∀ r, SH u r = SH x r) ∧ xvr u = xvr x ∧ xfk u = xfk x ∧ xwk u = r1 ∧ xla u = xla x
section WALK11
variable {l : Launch} {D : va_G} {ad : Nat → Nat} {dB dI : ClassId}
theorem t_save (x : St) (h : INV x) (hla : xla x < 2 ^ 30) : TMi l yX0_save cX0_save 1 (some .int) 1 D (tyT dB dI) [.ref (ad 0)] (wT ad dB dI x) (wT ad dB dI) (fun a u => a = nI (xla x + 1) ∧ SavR x u) := by
  refine TMi.of (by decide) (Nat.le_of_ble_eq_true rfl) (fun p e s m below meth c A C => ?_)
  have hC := h.1
  have hB := hC.1
  have hV := hC.2.1
  have hV1 := hV.1
  have hV2 := hV.2.1
  have hV3 := hV.2.2
  have hw8 : xwk x < 8 := hB.2.2.2.2.2.2.2
  refine tw_aload_n C dX0_save_0 rfl ?_
  refine tw_dup C dX0_save_1 rfl ?_
  refine tt_get_la C (xla x) dX0_save_2 rfl ?_
  refine tw_iconst C (nI 1) dX0_save_5 (by decide) ?_
  refine tn_iadd C dX0_save_6 ?_
  refine tt_put_la C dX0_save_7 ?_
  refine tw_aload_n C dX0_save_10 rfl ?_
  refine tt_get_la C (xla x + 1) dX0_save_11 rfl ?_
  refine tw_aload_n C dX0_save_14 rfl ?_
  refine tt_get_fk C (xfk x) dX0_save_15 rfl ?_
  refine tn_isub C dX0_save_18 (by omega) ?_
  refine tw_iconst C (nI 4) dX0_save_19 (by decide) ?_
  refine tn_icmp_lt C 48 dX0_save_20 (by decide) (by omega) (by omega)  (fun hb => ?_) (fun hb => ?_)
  · have hru := ru_le hC hw8
    refine tw_aload_n C dX0_save_48 rfl ?_
    refine tt_get_vr C dX0_save_49 ?_
    refine tw_aload_n C dX0_save_52 rfl ?_
    refine tt_get_la C (xla x + 1) dX0_save_53 rfl ?_
    refine tw_iconst C (nI 3) dX0_save_56 (by decide) ?_
    refine tw_iand C dX0_save_57 ?_
    refine tw_top (congrArg Value.int (pk_andN (show xla x + 1 < 2 ^ 32 by omega) (m := nI 3) 2 (by decide))) ?_
    refine tw_aload_n C dX0_save_58 rfl ?_
    refine tt_get_wk C (xwk x) dX0_save_59 rfl ?_
    refine tn_i2b C dX0_save_62 (by omega) ?_
    refine tt_st_vr C dX0_save_63 (by omega) (by omega) ?_
    refine tw_aload_n C dX0_save_64 rfl ?_
    refine tt_get_ru C dX0_save_65 ?_
    refine tw_aload_n C dX0_save_68 rfl ?_
    refine tt_get_wk C (xwk x) dX0_save_69 rfl ?_
    refine tw_dup2 C dX0_save_72 rfl rfl ?_
    refine tt_ld_ru C (xru x (xwk x)) dX0_save_73 (by omega) rfl ?_
    refine tw_iconst C (nI 1) dX0_save_74 (by decide) ?_
    refine tn_iadd C dX0_save_75 ?_
    refine tn_i2b C dX0_save_76 (by omega) ?_
    refine tt_st_ru C dX0_save_77 (by omega) (by omega) ?_
    refine tw_aload_n C dX0_save_78 rfl ?_
    refine tt_get_la C (xla x + 1) dX0_save_79 rfl ?_
    refine tw_iret C (sru (svr (sla (sfk x (xfk x)) (xla x + 1)) (updN (xvr x) ((xla x + 1) % 4) (xwk x))) (updN (xru x) (xwk x) (xru x (xwk x) + 1))) dX0_save_82 rfl rfl ⟨rfl, ?_⟩
    exact P_save h hB hC.2.2.2 (Nat.le_refl _) (by omega) (by omega) hV2 (fun r hr => hC.2.2.1 r hr) (fun _ => rfl) rfl rfl rfl (by rw [if_neg (by omega)])
  · have hla4 : xla x = xfk x + 3 := by omega
    refine tw_aload_n C dX0_save_23 rfl ?_
    refine tw_aload_n C dX0_save_24 rfl ?_
    refine tt_get_vr C dX0_save_25 ?_
    refine tw_aload_n C dX0_save_28 rfl ?_
    refine tt_get_fk C (xfk x) dX0_save_29 rfl ?_
    refine tw_iconst C (nI 3) dX0_save_32 (by decide) ?_
    refine tw_iand C dX0_save_33 ?_
    refine tw_top (congrArg Value.int (pk_andN (show xfk x < 2 ^ 32 by omega) (m := nI 3) 2 (by decide))) ?_
    refine tt_ld_vr C (vrs x 0) dX0_save_34 (by omega) rfl ?_
    have hr8 := vrs_lt hB 0
    have hlv := vr_live hC (i := 0) (by unfold vn; omega)
    obtain ⟨p1, p2, p3⟩ := P_rel (x := sla x (xla x + 1)) hB hC.2.2.2 hr8 hlv
    refine tt_callv1 C (t_release (sla x (xla x + 1)) (vrs x 0) hB hr8 hlv (fun _ => p3)) rfl q80 q82 qs2 q83 (by decide +kernel) (by decide) (by decide) (Nat.le_of_ble_eq_true rfl) dX0_save_35  (fun w hw => ?_)
    subst hw
    have eru : ∀ r, xru (relS (sla x (xla x + 1)) (vrs x 0)) r = updN (xru x) (vrs x 0) (xru x (vrs x 0) - 1) r := fun _ => rfl
    have hru : ∀ r, r < 8 → xru (relS (sla x (xla x + 1)) (vrs x 0)) r = (if xwk x = r then 1 else 0) + cntp (fun i => xvr x ((xfk x + 1 + i) % 4)) (xla x + 1 - (xfk x + 1)) r := by
      intro r hr
      have h3 := hC.2.2.1 r hr
      have e1 : cntp (vrs x) (vn x) r = (if vrs x 0 = r then 1 else 0) + cntp (fun i => xvr x ((xfk x + 1 + i) % 4)) (xla x + 1 - (xfk x + 1)) r := by
        rw [show vn x = 1 + (xla x + 1 - (xfk x + 1)) by unfold vn; omega, cntp_add, cntp_congr (f := fun i => xvr x ((xfk x + 1 + i) % 4)) (g := fun i => vrs x (1 + i)) (fun i hi => by show xvr x ((xfk x + 1 + i) % 4) = xvr x ((xfk x + (1 + i)) % 4); rw [Nat.add_assoc])]
        simp only [cntp]
        omega
      rw [e1] at h3
      rw [eru]
      by_cases e : r = vrs x 0
      · rw [e, updN_at]
        rw [e, if_pos rfl] at h3
        omega
      · rw [updN_ne e]
        rw [if_neg (show ¬ vrs x 0 = r from fun q => e q.symm)] at h3
        omega
    have hruw : xru (relS (sla x (xla x + 1)) (vrs x 0)) (xwk x) ≤ 5 := by
      have := ru_le hC hw8
      rw [eru]
      unfold updN
      by_cases e : xwk x = vrs x 0
      · rw [if_pos e, ← e]; omega
      · rw [if_neg e]; exact this
    refine tw_aload_n C dX0_save_38 rfl ?_
    refine tw_dup C dX0_save_39 rfl ?_
    refine tt_get_fk C (xfk x) dX0_save_40 rfl ?_
    refine tw_iconst C (nI 1) dX0_save_43 (by decide) ?_
    refine tn_iadd C dX0_save_44 ?_
    refine tt_put_fk C dX0_save_45 ?_
    refine tw_aload_n C dX0_save_48 rfl ?_
    refine tt_get_vr C dX0_save_49 ?_
    refine tw_aload_n C dX0_save_52 rfl ?_
    refine tt_get_la C (xla x + 1) dX0_save_53 rfl ?_
    refine tw_iconst C (nI 3) dX0_save_56 (by decide) ?_
    refine tw_iand C dX0_save_57 ?_
    refine tw_top (congrArg Value.int (pk_andN (show xla x + 1 < 2 ^ 32 by omega) (m := nI 3) 2 (by decide))) ?_
    refine tw_aload_n C dX0_save_58 rfl ?_
    refine tt_get_wk C (xwk x) dX0_save_59 rfl ?_
    refine tn_i2b C dX0_save_62 (by omega) ?_
    refine tt_st_vr C dX0_save_63 (by omega) (by omega) ?_
    refine tw_aload_n C dX0_save_64 rfl ?_
    refine tt_get_ru C dX0_save_65 ?_
    refine tw_aload_n C dX0_save_68 rfl ?_
    refine tt_get_wk C (xwk x) dX0_save_69 rfl ?_
    refine tw_dup2 C dX0_save_72 rfl rfl ?_
    refine tt_ld_ru C (xru (relS (sla x (xla x + 1)) (vrs x 0)) (xwk x)) dX0_save_73 (by omega) rfl ?_
    refine tw_iconst C (nI 1) dX0_save_74 (by decide) ?_
    refine tn_iadd C dX0_save_75 ?_
    refine tn_i2b C dX0_save_76 (by omega) ?_
    refine tt_st_ru C dX0_save_77 (by omega) (by omega) ?_
    refine tw_aload_n C dX0_save_78 rfl ?_
    refine tt_get_la C (xla x + 1) dX0_save_79 rfl ?_
    refine tw_iret C (sru (svr (sla (sfk (relS (sla x (xla x + 1)) (vrs x 0)) (xfk x + 1)) (xla x + 1)) (updN (xvr x) ((xla x + 1) % 4) (xwk x))) (updN (xru (relS (sla x (xla x + 1)) (vrs x 0))) (xwk x) (xru (relS (sla x (xla x + 1)) (vrs x 0)) (xwk x) + 1))) dX0_save_82 rfl rfl ⟨rfl, ?_⟩
    exact P_save h p1 p2 (by omega) (by omega) (by omega) (by omega) hru (fun _ => rfl) rfl rfl rfl (by rw [if_pos (by omega)]; omega)
theorem t_goBack (x : St) (n : Int32) (h : INV x) (hla : xla x < 2 ^ 30) : TMi l yX0_goBack cX0_goBack 3 (some .boolean) 1 D (tyT dB dI) [.ref (ad 0), .int n] (wT ad dB dI x) (wT ad dB dI) (fun a u => (a = 0 ∧ ¬ keptP x n ∧ u = x) ∨ (a = 1 ∧ ∃ N, N < 2 ^ 31 ∧ n = nI N ∧ xfk x ≤ N ∧ N ≤ xla x ∧ GbR x N u)) := by
  refine TMi.of (by decide) (Nat.le_of_ble_eq_true rfl) (fun p e s m below meth c A C => ?_)
  have hC := h.1
  have hB := hC.1
  have hV := hC.2.1
  have hV1 := hV.1
  have hV2 := hV.2.1
  have hV3 := hV.2.2
  have hw8 : xwk x < 8 := hB.2.2.2.2.2.2.2
  refine tw_aload_n C dX0_goBack_0 rfl ?_
  refine tw_iload_n C dX0_goBack_1 rfl ?_
  refine tt_calli1 C (t_isKept x n) rfl q136 q138 qs13 q139 (by decide +kernel) (by decide) (by decide) (Nat.le_of_ble_eq_true rfl) dX0_goBack_2  (fun a u hu => ?_)
  obtain ⟨hu, rfl⟩ := hu
  rcases hu with ⟨rfl, hk⟩ | ⟨rfl, hk⟩
  · refine tw_if_ne C 10 dX0_goBack_5 (by decide)  (fun hb => ?_) (fun hb => ?_)
    · have hn0 : ¬ n < 0 := fun q => hk.1 (Int32.lt_of_lt_of_le q (nI_pos' (by omega)))
      obtain ⟨N, hN, rfl⟩ := nI_of hn0
      have hN1 : xfk u ≤ N := by
        rcases Nat.lt_or_ge N (xfk u) with y | y
        · exact absurd ((nI_ltI hN (by omega)).mpr y) hk.1
        · exact y
      have hN2 : N ≤ xla u := by
        rcases Nat.lt_or_ge (xla u) N with y | y
        · exact absurd ((nI_ltI (by omega) hN).mpr y) hk.2
        · exact y
      obtain ⟨r1, hr1⟩ : ∃ r1, r1 = xvr u (N % 4) := ⟨_, rfl⟩
      have hr1v : r1 = vrs u (N - xfk u) := by rw [hr1]; unfold vrs; rw [show xfk u + (N - xfk u) = N by omega]
      have hr18 : r1 < 8 := by rw [hr1]; exact hB.2.2.2.2.2.2.1 _
      have hlw := wk_live hC
      obtain ⟨p1, p2, p3⟩ := P_rel (x := u) hB hC.2.2.2 hw8 hlw
      refine tw_aload_n C dX0_goBack_10 rfl ?_
      refine tw_aload_n C dX0_goBack_11 rfl ?_
      refine tt_get_wk C (xwk u) dX0_goBack_12 rfl ?_
      refine tt_callv1 C (t_release u (xwk u) hB hw8 hlw (fun _ => p3)) rfl q80 q82 qs2 q83 (by decide +kernel) (by decide) (by decide) (Nat.le_of_ble_eq_true rfl) dX0_goBack_15  (fun w hw => ?_)
      subst hw
      have eru : ∀ r, xru (relS u (xwk u)) r = updN (xru u) (xwk u) (xru u (xwk u) - 1) r := fun _ => rfl
      have hru1 : ∀ r, r < 8 → xru (relS u (xwk u)) r = cntp (vrs u) (vn u) r := by
        intro r hr
        have h3 := hC.2.2.1 r hr
        rw [eru]
        by_cases e : r = xwk u
        · rw [e, updN_at]
          rw [e, if_pos rfl] at h3
          omega
        · rw [updN_ne e]
          rw [if_neg (fun q => e q.symm)] at h3
          omega
      have hr1l : 1 ≤ cntp (vrs u) (vn u) r1 := by rw [hr1v]; exact cntp_pos (vrs u) (by unfold vn; omega)
      have hcl : ∀ r, cntp (vrs u) (vn u) r ≤ 4 := fun r => Nat.le_trans (cntp_le _ _ _) (by unfold vn; omega)
      have hrr := hru1 r1 hr18
      have hcr := hcl r1
      refine tw_aload_n C dX0_goBack_18 rfl ?_
      refine tw_aload_n C dX0_goBack_19 rfl ?_
      refine tt_get_vr C dX0_goBack_20 ?_
      refine tw_iload_n C dX0_goBack_23 rfl ?_
      refine tw_iconst C (nI 3) dX0_goBack_24 (by decide) ?_
      refine tw_iand C dX0_goBack_25 ?_
      refine tw_top (congrArg Value.int (pk_andN (show N < 2 ^ 32 by omega) (m := nI 3) 2 (by decide))) ?_
      refine tt_ld_vr C r1 dX0_goBack_26 (by omega) hr1.symm ?_
      refine tt_put_wk C dX0_goBack_27 ?_
      refine tw_aload_n C dX0_goBack_30 rfl ?_
      refine tt_get_ru C dX0_goBack_31 ?_
      refine tw_aload_n C dX0_goBack_34 rfl ?_
      refine tt_get_wk C (r1) dX0_goBack_35 rfl ?_
      refine tw_dup2 C dX0_goBack_38 rfl rfl ?_
      refine tt_ld_ru C (xru (relS u (xwk u)) r1) dX0_goBack_39 (by omega) rfl ?_
      refine tw_iconst C (nI 1) dX0_goBack_40 (by decide) ?_
      refine tn_iadd C dX0_goBack_41 ?_
      refine tn_i2b C dX0_goBack_42 (by omega) ?_
      refine tt_st_ru C dX0_goBack_43 (by omega) (by omega) ?_
      refine tw_aload_n C dX0_goBack_44 rfl ?_
      refine tt_get_la C (xla u) dX0_goBack_45 rfl ?_
      refine tw_istore_n C dX0_goBack_48 (by decide) rfl ?_
      have hJ0 : JG u r1 (xla u) (sru (swk (relS u (xwk u)) r1) (updN (xru (relS u (xwk u))) r1 (xru (relS u (xwk u)) r1 + 1))) := by
        refine ⟨Bd_ru (Bd_wk p1 hr18) (updN_lt p1.2.2.2.1 (by omega)), LU_same p2 rfl rfl rfl (fun r hr => ?_), fun r hr => ?_, fun _ => rfl, rfl, rfl, rfl, rfl⟩
        · show 0 < updN (xru (relS u (xwk u))) r1 (xru (relS u (xwk u)) r1 + 1) r ↔ _
          by_cases e : r = r1
          · rw [e, updN_at]; omega
          · rw [updN_ne e]
        · show updN (xru (relS u (xwk u))) r1 (xru (relS u (xwk u)) r1 + 1) r = _
          rw [show xla u + 1 - xfk u = vn u from rfl]
          by_cases e : r = r1
          · rw [e, updN_at, if_pos rfl, hrr]; omega
          · rw [updN_ne e, if_neg (fun q => e q.symm), hru1 r hr]; omega
      refine tw_loop (α := Nat × St) (fun a => wT ad dB dI a.2) (fun a => [(0, .ref (ad 0)), (1, .int (nI N)), (2, .int (nI a.1))]) (fun a => N ≤ a.1 ∧ a.1 ≤ xla u ∧ JG u r1 a.1 a.2) (fun a => a.1) ?_ (xla u, sru (swk (relS u (xwk u)) r1) (updN (xru (relS u (xwk u))) r1 (xru (relS u (xwk u)) r1 + 1))) ⟨hN2, Nat.le_refl _, hJ0⟩
      rintro ⟨mm, w⟩ ⟨g1, g2, g3⟩ ih
      obtain ⟨j1, j2, j3, j4, j5, j6, j7, j8⟩ := g3
      have j1 : Bd w := j1
      have j2 : LU w := j2
      have j3 : ∀ r, r < 8 → xru w r = (if r1 = r then 1 else 0) + cntp (vrs u) (mm + 1 - xfk u) r := j3
      have j4 : ∀ r, SH w r = SH u r := j4
      have j5 : xvr w = xvr u := j5
      have j6 : xfk w = xfk u := j6
      have j7 : xwk w = r1 := j7
      have j8 : xla w = xla u := j8
      have g1 : N ≤ mm := g1
      have g2 : mm ≤ xla u := g2
      refine tw_iload_n C dX0_goBack_49 rfl ?_
      refine tw_iload_n C dX0_goBack_50 rfl ?_
      refine tn_icmp_le C 72 dX0_goBack_51 (by decide) (by omega) (by omega)  (fun hb2 => ?_) (fun hb2 => ?_)
      · have he : mm = N := by omega
        subst he
        refine tw_aload_n C dX0_goBack_72 rfl ?_
        refine tw_iload_n C dX0_goBack_73 rfl ?_
        refine tt_put_la C dX0_goBack_74 ?_
        refine tw_iconst C (nI 1) dX0_goBack_77 (by decide) ?_
        refine tw_iret C (sla w mm) dX0_goBack_78 rfl rfl (Or.inr ⟨rfl, mm, hN, rfl, hN1, hN2, ⟨⟨j1, ?_, ?_, ?_⟩, ?_⟩, ?_, j6, rfl, ?_⟩)
        · show 1 ≤ xfk w ∧ xfk w ≤ mm + 1 ∧ mm ≤ xfk w + 3
          rw [j6]; omega
        · intro r hr
          show xru w r = (if xwk w = r then 1 else 0) + cntp (vrs w) (mm + 1 - xfk w) r
          rw [j3 r hr, j7, j6]
          congr 1
          unfold vrs
          rw [j5, j6]
        · exact j2
        · intro r hr hl
          show WFs (SH w r)
          rw [j4]
          refine h.2 r hr ?_
          have hl2 : 0 < xru w r := hl
          rw [j3 r hr] at hl2
          rw [hC.2.2.1 r hr]
          have hmo := cntp_mono (vrs u) r (show mm + 1 - xfk u ≤ vn u by unfold vn; omega)
          by_cases er : r1 = r
          · rw [← er]; omega
          · rw [if_neg er] at hl2; omega
        · show SH w (xwk w) = _
          rw [j4, j7, hr1]
        · intro n' h1 h2
          show SH w (xvr w (n' % 4)) = _
          rw [j4, j5]
      · obtain ⟨r2, hr2⟩ : ∃ r2, r2 = xvr u (mm % 4) := ⟨_, rfl⟩
        have hr2v : r2 = vrs u (mm - xfk u) := by rw [hr2]; unfold vrs; rw [show xfk u + (mm - xfk u) = mm by omega]
        have hr28 : r2 < 8 := by rw [hr2]; exact hB.2.2.2.2.2.2.1 _
        have hsu : ∀ r, cntp (vrs u) (mm + 1 - xfk u) r = cntp (vrs u) (mm - xfk u) r + if r2 = r then 1 else 0 := fun r => by
          rw [show mm + 1 - xfk u = (mm - xfk u) + 1 by omega, hr2v]
          rfl
        have hl2 : 1 ≤ xru w r2 := by rw [j3 r2 hr28, hsu, if_pos (rfl : r2 = r2)]; omega
        obtain ⟨q1, q2, q3⟩ := P_rel (x := w) j1 j2 hr28 hl2
        refine tw_aload_n C dX0_goBack_54 rfl ?_
        refine tw_aload_n C dX0_goBack_55 rfl ?_
        refine tt_get_vr C dX0_goBack_56 ?_
        refine tw_iload_n C dX0_goBack_59 rfl ?_
        refine tw_iconst C (nI 3) dX0_goBack_60 (by decide) ?_
        refine tw_iand C dX0_goBack_61 ?_
        refine tw_top (congrArg Value.int (pk_andN (show mm < 2 ^ 32 by omega) (m := nI 3) 2 (by decide))) ?_
        refine tt_ld_vr C r2 dX0_goBack_62 (by omega) (by rw [j5]; exact hr2.symm) ?_
        refine tt_callv1 C (t_release w r2 j1 hr28 hl2 (fun _ => q3)) rfl q80 q82 qs2 q83 (by decide +kernel) (by decide) (by decide) (Nat.le_of_ble_eq_true rfl) dX0_goBack_63  (fun w2 hw2 => ?_)
        subst hw2
        obtain ⟨m0, rfl⟩ : ∃ m0, mm = m0 + 1 := ⟨mm - 1, by omega⟩
        refine tn_dec C dX0_goBack_66 rfl (by decide) rfl ?_
        refine tw_goto C 49 dX0_goBack_69 (by decide) ?_
        refine ih (m0, relS w r2) ⟨show N ≤ m0 by omega, show m0 ≤ xla u by omega, q1, q2, fun r hr => ?_, fun r => j4 r, j5, j6, j7, j8⟩ (show m0 < m0 + 1 by omega)
        show updN (xru w) r2 (xru w r2 - 1) r = _
        have h9 := j3 r hr
        rw [hsu] at h9
        show _ = (if r1 = r then 1 else 0) + cntp (vrs u) (m0 + 1 - xfk u) r
        by_cases e : r = r2
        · rw [e, updN_at]
          rw [e, if_pos (rfl : r2 = r2)] at h9
          omega
        · rw [updN_ne e]
          rw [if_neg (show ¬ r2 = r from fun q => e q.symm)] at h9
          omega
    · exact absurd hb (by decide)
  · refine tw_if_ne C 10 dX0_goBack_5 (by decide)  (fun hb => ?_) (fun hb => ?_)
    · exact absurd rfl hb
    · refine tw_iconst C (nI 0) dX0_goBack_8 (by decide) ?_
      exact tw_iret C u dX0_goBack_9 rfl rfl (Or.inl ⟨rfl, hk, rfl⟩)
end WALK11
end
section
set_option maxRecDepth 100000
/-! NEW CELLS: rows over any world; the constructors -/
theorem arr_byte {s : State} {args : Array Value} (h : (Cond.arrayClass .byte).before args s = true) : ∃ cA, ArrOfT s cA .byte ∧ va_RA s cA .byte := by
  obtain ⟨cA, kA, comp, h1, h2, h3⟩ := Cond.arrayClass_spec h
  exact ⟨cA, fun n z => ⟨fun k h => (by cases h), kA, h2, comp, h3⟩, h1⟩
theorem arr_int {s : State} {args : Array Value} (h : (Cond.arrayClass .int).before args s = true) : ∃ cA, ArrOfT s cA .int ∧ va_RA s cA .int := by
  obtain ⟨cA, kA, comp, h1, h2, h3⟩ := Cond.arrayClass_spec h
  exact ⟨cA, fun n z => ⟨fun k h => (by cases h), kA, h2, comp, h3⟩, h1⟩
section TWN
variable {p : Program} {l : Launch} {e : Env} {R : Room} {s : State} {m : MethodId} {args : Array Value} {below : List Frame} {meth : Method} {c : Code} {cells slots : Nat} {Q : State → Prop} {D : va_G} {A : Nat → Prop} {nL : Nat} {ws : va_W} {pc : Nat} {lv : List (Nat × Value)} {st : List Value}
variable {cc : ByteArray} {own : String} {tys : List (ClassId × FieldType)} {ret : Option FieldType}
theorem tw_newb (C : Cx p s m args meth c D A nL cc own tys ret) (t0 : Nat) {cA : ClassId} (ht : tys[t0]? = some (cA, .byte)) {N : Nat} (cells' slots' : Nat) (hN : N < 1000) (hc : cells + 1 = cells') (hs : slots + N = slots') (hC : cells' ≤ R.cells ∧ slots' ≤ R.slots) (hdg : decode cc pc = .ok (.newarray .byte, 2))
    (kk : ∀ q : Nat, TW p l e R s m args below meth c cells' slots' Q D A nL (ws ++ [(q, .inl (cA, N, .inl (nf (fun _ => 0))))]) (pc + 2) lv (.ref q :: st)) : TW p l e R s m args below meth c cells slots Q D A nL ws pc lv (.int (nI N) :: st) := by
  subst hc
  subst hs
  intro H locs ls hP hD hS hl
  obtain ⟨hx, hb, hml, hown, hts, hA, hK, hlocks, hr⟩ := C
  have hby : N * componentBytes .byte ≤ 536870912 := Nat.le_trans (Nat.mul_le_mul (Nat.le_of_lt hN) (show componentBytes .byte ≤ 8 by decide)) (by decide)
  refine va_newa (atype := .byte) (a0 := (N, .inl (nf (fun _ => 0)))) (N' := N) (ty := .byte) hx hb (hts _ q66) rfl hK hP hD hS hA (fun cA => rfl) (nI_pos (by omega)) (nI_clamp (by omega)) hby hC.1 hC.2 hdg (fun q cB H1 hK1 hP1 hD1 hS1 => ?_)
  have e1 := va_nm_byte (hK.2 t0 _ ht).2
  have e2 := va_nm_byte (hK1.2 tys.length (cB, .byte) (by simp)).2
  have e : cB = cA := Option.some.inj (e2.symm.trans e1)
  subst e
  exact kk q H1 locs ls hP1 hD1 hS1 hl
theorem tw_newi (C : Cx p s m args meth c D A nL cc own tys ret) (t0 : Nat) {cA : ClassId} (ht : tys[t0]? = some (cA, .int)) {N : Nat} (cells' slots' : Nat) (hN : N < 1000) (hc : cells + 1 = cells') (hs : slots + N = slots') (hC : cells' ≤ R.cells ∧ slots' ≤ R.slots) (hdg : decode cc pc = .ok (.newarray .int, 2))
    (kk : ∀ q : Nat, TW p l e R s m args below meth c cells' slots' Q D A nL (ws ++ [(q, .inl (cA, N, .inl (fun _ => 0)))]) (pc + 2) lv (.ref q :: st)) : TW p l e R s m args below meth c cells slots Q D A nL ws pc lv (.int (nI N) :: st) := by
  subst hc
  subst hs
  intro H locs ls hP hD hS hl
  obtain ⟨hx, hb, hml, hown, hts, hA, hK, hlocks, hr⟩ := C
  have hby : N * componentBytes .int ≤ 536870912 := Nat.le_trans (Nat.mul_le_mul (Nat.le_of_lt hN) (show componentBytes .int ≤ 8 by decide)) (by decide)
  refine va_newa (atype := .int) (a0 := (N, .inl (fun _ => 0))) (N' := N) (ty := .int) hx hb (hts _ q67) rfl hK hP hD hS hA (fun cA => rfl) (nI_pos (by omega)) (nI_clamp (by omega)) hby hC.1 hC.2 hdg (fun q cB H1 hK1 hP1 hD1 hS1 => ?_)
  have e1 := va_nm_int (hK.2 t0 _ ht).2
  have e2 := va_nm_int (hK1.2 tys.length (cB, .int) (by simp)).2
  have e : cB = cA := Option.some.inj (e2.symm.trans e1)
  subst e
  exact kk q H1 locs ls hP1 hD1 hS1 hl
theorem tw_objInit (C : Cx p s m args meth c D A nL cc own tys ret) {idx a : Nat} (h1 : Cond.methodLink own idx Lib.objectInit ∈ lw_all) (hf : 1 ≤ R.frames) (hlo : 12 ≤ R.locals) (hdg : decode cc pc = .ok (.invokespecial idx, 3)) (kk : TW p l e R s m args below meth c cells slots Q D A nL ws (pc + 3) lv []) : TW p l e R s m args below meth c cells slots Q D A nL ws pc lv [.ref a] := by
  intro H locs ls hP hD hS hl
  obtain ⟨hx, hb, hml, hown, hts, hA, hK, hlocks, hr⟩ := C
  exact W.objInit hx hb hown (hts _ h1) (hts _ q30) (hts _ q31) rfl (by rw [hml]; exact hl.1) rfl hdg hf (by show 2 * 0 + 0 + 12 ≤ R.locals; omega) (kk H locs ls hP hD hS hl)
theorem tt_putF (C : Cx p s m args meth c D A nL cc RX0 tys ret) (hin : meth.name = "<init>") {a q index : Nat} (k : Nat) {fs : List Value} {ty : FieldType} {ws' : va_W} (he : ws[0]? = some (a, .inr (0, fs))) (hk : k < 11) (hlink : Cond.fieldLink RX0 index RX0 (TX0 k).2.1 (TX0 k).2.2.1 ∈ lw_all) (hfin : (TX0 k).2.2.2 = true) (hdecl : (TX0 k).1 = RX0) (hd : parseFieldDescriptor (TX0 k).2.2.1 = some ty) (hn : narrow ty (.ref q) = .ref q) (hfit : fits ty (.ref q) = true) (hl : k < fs.length) (hw : ws.set 0 (a, .inr (0, fs.set k (.ref q))) = ws') (hdg : decode cc pc = .ok (.putfield index, 3)) (kk : TW p l e R s m args below meth c cells slots Q D A nL ws' (pc + 3) lv st) : TW p l e R s m args below meth c cells slots Q D A nL ws pc lv (.ref q :: .ref a :: st) := by
  subst hw
  intro H locs ls hP hD hS hl0
  have hsame : ∀ x, s.fieldFound? (TX0 k).1 (TX0 k).2.1 (TX0 k).2.2.1 = some x → s.fieldFound? RX0 (TX0 k).2.1 (TX0 k).2.2.1 = some x := fun x h => by rw [← hdecl]; exact h
  exact va_putF (ci := 0) (v := .ref q) (ty := ty) (C := RX0) (T := TX0) (N := 11) C.1 C.2.1 C.2.2.2.2.1 in_X0 tyX0 tyX0_ok nmX0 C.2.2.2.1 C.2.2.2.2.2.2.1 hP hD hS 0 he rfl k hk (C.2.2.2.2.1 _ hlink) hsame hfin hin hdecl hd hn hfit hl hdg (fun H locs hP hD hS => kk H locs ls hP hD hS hl0)
theorem tm_putR (C : Cx p s m args meth c D A nL cc RX1 tys ret) {a q index : Nat} (k : Nat) {fs : List Value} {ty : FieldType} {ws' : va_W} (he : ws[0]? = some (a, .inr (1, fs))) (hk : k < 4) (hlink : Cond.fieldLink RX1 index RX1 (TX1 k).2.1 (TX1 k).2.2.1 ∈ lw_all) (hfin : (TX1 k).2.2.2 = false) (hdecl : (TX1 k).1 = RX1) (hd : parseFieldDescriptor (TX1 k).2.2.1 = some ty) (hn : narrow ty (.ref q) = .ref q) (hfit : fits ty (.ref q) = true) (hl : k < fs.length) (hw : ws.set 0 (a, .inr (1, fs.set k (.ref q))) = ws') (hdg : decode cc pc = .ok (.putfield index, 3)) (kk : TW p l e R s m args below meth c cells slots Q D A nL ws' (pc + 3) lv st) : TW p l e R s m args below meth c cells slots Q D A nL ws pc lv (.ref q :: .ref a :: st) := by
  subst hw
  intro H locs ls hP hD hS hl0
  have hsame : ∀ x, s.fieldFound? (TX1 k).1 (TX1 k).2.1 (TX1 k).2.2.1 = some x → s.fieldFound? RX1 (TX1 k).2.1 (TX1 k).2.2.1 = some x := fun x h => by rw [← hdecl]; exact h
  exact va_put (ci := 1) (v := .ref q) (ty := ty) (C := RX1) (T := TX1) (N := 4) C.1 C.2.1 C.2.2.2.2.1 in_X1 tyX1 tyX1_ok nmX1 C.2.2.2.1 C.2.2.2.2.2.2.1 hP hD hS 0 he rfl k hk (C.2.2.2.2.1 _ hlink) hsame hfin hd hn hfit hl hdg (fun H locs hP hD hS => kk H locs ls hP hD hS hl0)
end TWN
/-- a contract that makes cells -/
def TNv (l : Launch) (y : MethodName) (bytes : ByteArray) (maxL : Nat) (rm : Room) (mc ms : Nat) (D : va_G) (tys : List (ClassId × FieldType)) (av : List Value) (ws0 : va_W) {S : Type} (wsf : S → va_W) (post : S → Prop) : Prop :=
  ∀ sz : Nat, Met l y (ws_ y bytes maxL none) rm (va_Pc av (fun U => U.heap.size = sz ∧ va_P D vwCl ws0 U.heap ∧ va_K D vwCl tys U ∧ va_D (fun _ => True) ws0)) (va_Qv post (Bq D tys (va_A ws0 sz) wsf) (va_A ws0 sz)) mc ms (va_A ws0 sz)
theorem TNv.of {l : Launch} {y : MethodName} {bytes : ByteArray} {maxL : Nat} {rm : Room} {mc ms : Nat} {D : va_G} {tys : List (ClassId × FieldType)} {av : List Value} {ws0 : va_W} {S : Type} {wsf : S → va_W} {post : S → Prop} (hy : plainName y.cls = true) (hlen : (lg_sl av).length ≤ maxL)
    (h : ∀ (p : Program) (e : Env) (s : State) (m : MethodId) (below : List Frame) (meth : Method) (c : Code) (A : Nat → Prop), Cx p s m av.toArray meth c D A maxL bytes y.cls tys none → meth.name = y.name → TW p l e rm s m av.toArray below meth c 0 0 (MQ below (va_Qv post (Bq D tys A wsf) A) av.toArray s mc ms A) D A maxL ws0 0 (lv_args 0 av) []) : TNv l y bytes maxL rm mc ms D tys av ws0 wsf post := by
  intro sz
  refine Met.ofW (cc := bytes) (maxL := maxL) (ret := none) hy rfl ?_
  intro p e s m args below meth c s₁ B hml hv
  obtain ⟨rfl, hsz, hP, hK, hD0⟩ := hv
  have hts := atoms_spec (ws := ws_ y bytes maxL none) B.pre
  have hts : ∀ w ∈ lw_all, w.before _ s = true := fun w h => hts w (List.mem_cons_of_mem _ h)
  have hnm : meth.name = y.name := (name_of_methodNamed B.named B.method).1
  subst hsz
  have hD := hD0.self (sz := s.heap.size)
  generalize hAe : va_A ws0 s.heap.size = A at hD ⊢
  have hA : ∀ q : Nat, s.heap.size ≤ q → A q := fun q h => by rw [← hAe]; exact Or.inr h
  have hl := lv_entry av (n := maxL) hlen
  rw [lg_entry_eq]
  exact h p e s m below meth c A ⟨B.exec, B.bytes, hml, findClass_of_methodNamed B.named, hts, hA, hK, B.notSynchronized, B.returns⟩ hnm _ _ _ hP hD va_S.rf hl
/-- the tree and the model at their birth -/
def x0T : St := ((fun _ => 0), (fun _ => 0), (fun _ => 0), (fun _ => 0), updN (fun _ => 0) 0 1, (fun _ => 0), (fun _ => 0), (fun _ => 0), 0, 1, 0)
def y0M : MSt := ((fun _ => 0), (fun _ => 0), 1, 0)
def w0T (a : Nat) : va_W := [(a, .inr (0, [.null, .null, .null, .null, .null, .null, .null, .int (nI 0), .null, .int (nI 0), .int (nI 0)]))]
def w0M (a : Nat) : va_W := [(a, .inr (1, [.null, .null, .int (nI 0), .int (nI 0)]))]
def ad9 (a q1 q2 q3 q4 q5 q6 q7 q8 : Nat) : Nat → Nat
  | 0 => a
  | 1 => q1
  | 2 => q2
  | 3 => q3
  | 4 => q4
  | 5 => q5
  | 6 => q6
  | 7 => q7
  | _ => q8
def am3 (a q1 q2 : Nat) : Nat → Nat
  | 0 => a
  | 1 => q1
  | _ => q2
section INIT
variable {l : Launch} {D : va_G} {dB dI : ClassId}
theorem t_init (a : Nat) : TNv l yX0_init cX0_init 1 ({ frames := 1, cells := 8, slots := 1308, locals := 30 } : Room) 8 1308 D (tyT dB dI) [.ref a] (w0T a) (fun ad => wT ad dB dI x0T) (fun ad => ad 0 = a) := by
  refine TNv.of (by decide) (Nat.le_of_ble_eq_true rfl) (fun p e s m below meth c A C hin => ?_)
  have hin : meth.name = "<init>" := hin
  refine tw_aload_n C dX0_init_0 rfl ?_
  refine tw_objInit C q29 (Nat.le_of_ble_eq_true rfl) (Nat.le_of_ble_eq_true rfl) dX0_init_1 ?_
  refine tw_aload_n C dX0_init_4 rfl ?_
  refine tw_bipush C (nI 96) dX0_init_5 (by decide) ?_
  refine tw_newb C 0 rfl 1 96 (by decide) rfl rfl ⟨Nat.le_of_ble_eq_true rfl, Nat.le_of_ble_eq_true rfl⟩ dX0_init_7 (fun q1 => ?_)
  refine tt_putF (ty := .array .byte) C hin 0 rfl (by decide) q32 rfl rfl (by decide +kernel) rfl rfl (Nat.le_of_ble_eq_true rfl) rfl dX0_init_9 ?_
  refine tw_aload_n C dX0_init_12 rfl ?_
  refine tw_bipush C (nI 96) dX0_init_13 (by decide) ?_
  refine tw_newb C 0 rfl 2 192 (by decide) rfl rfl ⟨Nat.le_of_ble_eq_true rfl, Nat.le_of_ble_eq_true rfl⟩ dX0_init_15 (fun q2 => ?_)
  refine tt_putF (ty := .array .byte) C hin 1 rfl (by decide) q33 rfl rfl (by decide +kernel) rfl rfl (Nat.le_of_ble_eq_true rfl) rfl dX0_init_17 ?_
  refine tw_aload_n C dX0_init_20 rfl ?_
  refine tw_sipush C (nI 480) dX0_init_21 (by decide) ?_
  refine tw_newb C 0 rfl 3 672 (by decide) rfl rfl ⟨Nat.le_of_ble_eq_true rfl, Nat.le_of_ble_eq_true rfl⟩ dX0_init_24 (fun q3 => ?_)
  refine tt_putF (ty := .array .byte) C hin 2 rfl (by decide) q34 rfl rfl (by decide +kernel) rfl rfl (Nat.le_of_ble_eq_true rfl) rfl dX0_init_26 ?_
  refine tw_aload_n C dX0_init_29 rfl ?_
  refine tw_sipush C (nI 480) dX0_init_30 (by decide) ?_
  refine tw_newi C 1 rfl 4 1152 (by decide) rfl rfl ⟨Nat.le_of_ble_eq_true rfl, Nat.le_of_ble_eq_true rfl⟩ dX0_init_33 (fun q4 => ?_)
  refine tt_putF (ty := .array .int) C hin 3 rfl (by decide) q35 rfl rfl (by decide +kernel) rfl rfl (Nat.le_of_ble_eq_true rfl) rfl dX0_init_35 ?_
  refine tw_aload_n C dX0_init_38 rfl ?_
  refine tw_bipush C (nI 8) dX0_init_39 (by decide) ?_
  refine tw_newb C 0 rfl 5 1160 (by decide) rfl rfl ⟨Nat.le_of_ble_eq_true rfl, Nat.le_of_ble_eq_true rfl⟩ dX0_init_41 (fun q5 => ?_)
  refine tt_putF (ty := .array .byte) C hin 4 rfl (by decide) q36 rfl rfl (by decide +kernel) rfl rfl (Nat.le_of_ble_eq_true rfl) rfl dX0_init_43 ?_
  refine tw_aload_n C dX0_init_46 rfl ?_
  refine tw_bipush C (nI 8) dX0_init_47 (by decide) ?_
  refine tw_newb C 0 rfl 6 1168 (by decide) rfl rfl ⟨Nat.le_of_ble_eq_true rfl, Nat.le_of_ble_eq_true rfl⟩ dX0_init_49 (fun q6 => ?_)
  refine tt_putF (ty := .array .byte) C hin 5 rfl (by decide) q37 rfl rfl (by decide +kernel) rfl rfl (Nat.le_of_ble_eq_true rfl) rfl dX0_init_51 ?_
  refine tw_aload_n C dX0_init_54 rfl ?_
  refine tw_sipush C (nI 136) dX0_init_55 (by decide) ?_
  refine tw_newb C 0 rfl 7 1304 (by decide) rfl rfl ⟨Nat.le_of_ble_eq_true rfl, Nat.le_of_ble_eq_true rfl⟩ dX0_init_58 (fun q7 => ?_)
  refine tt_putF (ty := .array .byte) C hin 6 rfl (by decide) q38 rfl rfl (by decide +kernel) rfl rfl (Nat.le_of_ble_eq_true rfl) rfl dX0_init_60 ?_
  refine tw_aload_n C dX0_init_63 rfl ?_
  refine tw_iconst C (nI 4) dX0_init_64 (by decide) ?_
  refine tw_newb C 0 rfl 8 1308 (by decide) rfl rfl ⟨Nat.le_of_ble_eq_true rfl, Nat.le_of_ble_eq_true rfl⟩ dX0_init_65 (fun q8 => ?_)
  refine tt_putF (ty := .array .byte) C hin 8 rfl (by decide) q40 rfl rfl (by decide +kernel) rfl rfl (Nat.le_of_ble_eq_true rfl) rfl dX0_init_67 ?_
  refine tw_eq (ws' := wT (ad9 a q1 q2 q3 q4 q5 q6 q7 q8) dB dI ((fun _ => 0), (fun _ => 0), (fun _ => 0), (fun _ => 0), (fun _ => 0), (fun _ => 0), (fun _ => 0), (fun _ => 0), 0, 0, 0)) rfl ?_
  refine tw_aload_n C dX0_init_70 rfl ?_
  refine tw_iconst C (nI 1) dX0_init_71 (by decide) ?_
  refine tt_put_fk C (ad := ad9 a q1 q2 q3 q4 q5 q6 q7 q8) dX0_init_72 ?_
  refine tw_aload_n C dX0_init_75 rfl ?_
  refine tt_get_ru C (ad := ad9 a q1 q2 q3 q4 q5 q6 q7 q8) dX0_init_76 ?_
  refine tw_iconst C (nI 0) dX0_init_79 (by decide) ?_
  refine tw_iconst C (nI 1) dX0_init_80 (by decide) ?_
  refine tt_st_ru C (ad := ad9 a q1 q2 q3 q4 q5 q6 q7 q8) dX0_init_81 (by decide) (by decide) ?_
  exact tw_vret C (ad9 a q1 q2 q3 q4 q5 q6 q7 q8) dX0_init_82 rfl rfl
theorem u_init (a : Nat) : TNv l yX1_init cX1_init 1 ({ frames := 1, cells := 2, slots := 165, locals := 30 } : Room) 2 165 D (tyT dB dI) [.ref a] (w0M a) (fun am => wM am dI y0M) (fun am => am 0 = a) := by
  refine TNv.of (by decide) (Nat.le_of_ble_eq_true rfl) (fun p e s m below meth c A C hin => ?_)
  refine tw_aload_n C dX1_init_0 rfl ?_
  refine tw_objInit C q207 (Nat.le_of_ble_eq_true rfl) (Nat.le_of_ble_eq_true rfl) dX1_init_1 ?_
  refine tw_aload_n C dX1_init_4 rfl ?_
  refine tw_iconst C (nI 5) dX1_init_5 (by decide) ?_
  refine tw_newi C 1 rfl 1 5 (by decide) rfl rfl ⟨Nat.le_of_ble_eq_true rfl, Nat.le_of_ble_eq_true rfl⟩ dX1_init_6 (fun q1 => ?_)
  refine tm_putR (ty := .array .int) C 0 rfl (by decide) q208 rfl rfl (by decide +kernel) rfl rfl (Nat.le_of_ble_eq_true rfl) rfl dX1_init_8 ?_
  refine tw_aload_n C dX1_init_11 rfl ?_
  refine tw_sipush C (nI 160) dX1_init_12 (by decide) ?_
  refine tw_newi C 1 rfl 2 165 (by decide) rfl rfl ⟨Nat.le_of_ble_eq_true rfl, Nat.le_of_ble_eq_true rfl⟩ dX1_init_15 (fun q2 => ?_)
  refine tm_putR (ty := .array .int) C 1 rfl (by decide) q209 rfl rfl (by decide +kernel) rfl rfl (Nat.le_of_ble_eq_true rfl) rfl dX1_init_17 ?_
  refine tw_eq (ws' := wM (am3 a q1 q2) dI ((fun _ => 0), (fun _ => 0), 0, 0)) rfl ?_
  refine tw_aload_n C dX1_init_20 rfl ?_
  refine tw_iconst C (nI 1) dX1_init_21 (by decide) ?_
  refine tm_put_lo C (am := am3 a q1 q2) dX1_init_22 ?_
  exact tw_vret C (am3 a q1 q2) dX1_init_25 rfl rfl
end INIT
end
section
/-! the bits of an int: rows of the kit's BITS text (starting text) -/
def bt (x : Int32) (i : Nat) : Bool := x.toBitVec.getLsbD i
theorem b_ext {x y : Int32} (h : ∀ i, i < 32 → bt x i = bt y i) : x = y := Int32.toBitVec_inj.mp (BitVec.eq_of_getLsbD_eq (fun i hi => h i hi))
theorem b_or (x y : Int32) (i : Nat) : bt (x ||| y) i = (bt x i || bt y i) := by unfold bt; rw [Int32.toBitVec_or, BitVec.getLsbD_or]
theorem b_and (x y : Int32) (i : Nat) : bt (x &&& y) i = (bt x i && bt y i) := by unfold bt; rw [Int32.toBitVec_and, BitVec.getLsbD_and]
theorem b_xor (x y : Int32) (i : Nat) : bt (x ^^^ y) i = (bt x i ^^ bt y i) := by unfold bt; rw [Int32.toBitVec_xor, BitVec.getLsbD_xor]
theorem b_big {x : Int32} {i : Nat} (h : 32 ≤ i) : bt x i = false := BitVec.getLsbD_of_ge _ _ h
theorem b_m1 : ∀ i, i < 32 → bt (-1) i = true := by decide +kernel
theorem b_0 (i : Nat) : bt 0 i = false := BitVec.getLsbD_zero
theorem s_l : ∀ n, n < 32 → ((nI n &&& 31).toBitVec.smod 32).toNat = n := by decide +kernel
theorem b_shl (n : Nat) (hn : n < 32) (x : Int32) {i : Nat} (hi : i < 32) : bt (x <<< (nI n &&& 31)) i = (decide (n ≤ i) && bt x (i - n)) := by
  unfold bt
  rw [Int32.toBitVec_shiftLeft]
  show (x.toBitVec <<< ((nI n &&& 31).toBitVec.smod 32).toNat).getLsbD i = _
  rw [s_l n hn, BitVec.getLsbD_shiftLeft]
  rcases Nat.lt_or_ge i n with h | h
  · simp [h, Nat.not_le.mpr h]
  · simp [hi, h, Nat.not_lt.mpr h]
theorem b_sshr (n : Nat) (hn : n < 32) (x : Int32) {i : Nat} (hi : i < 32) : bt (x >>> (nI n &&& 31)) i = if n + i < 32 then bt x (n + i) else bt x 31 := by
  unfold bt
  rw [Int32.toBitVec_shiftRight]
  show (x.toBitVec.sshiftRight ((nI n &&& 31).toBitVec.smod 32).toNat).getLsbD i = _
  rw [s_l n hn, BitVec.getLsbD_sshiftRight, BitVec.msb_eq_getLsbD_last]
  simp [hi]
end
section
/-! a model's table as a list; bits, ranks, sums over it -/
theorem bitm_bt (w : Int32) {i : Nat} (hi : i < 32) : bitm w i = bt w i := by
  have h1 := b_sshr i hi w (i := 0) (by decide)
  rw [Nat.add_zero, if_pos hi] at h1
  unfold bitm
  rw [← h1]
  generalize w >>> (nI i &&& 31) = z
  rw [pk_and z 1 (m := nI 1) (by decide)]
  have e : (nI (z.toBitVec.toNat % 2 ^ 1) = nI 1) ↔ z.toBitVec.toNat % 2 = 1 := nI_eq (by omega) (by omega)
  have e2 : bt z 0 = decide (z.toBitVec.toNat % 2 = 1) := by
    show z.toBitVec.toNat.testBit 0 = _
    rw [Nat.testBit_zero]
  rw [e2]
  exact decide_eq_decide.mpr e
theorem b_n1 : ∀ j, j < 32 → bt (nI 1) j = decide (j = 0) := by decide +kernel
theorem b_one {k i : Nat} (hk : k < 32) (hi : i < 32) : bt (nI 1 <<< (nI k &&& 31)) i = decide (i = k) := by
  rw [b_shl k hk (nI 1) hi]
  by_cases h : k ≤ i
  · rw [b_n1 (i - k) (by omega), decide_eq_true h, Bool.true_and]
    by_cases e : i = k
    · rw [decide_eq_true e, decide_eq_true (by omega)]
    · rw [decide_eq_false e, decide_eq_false (by omega)]
  · rw [decide_eq_false h, Bool.false_and, decide_eq_false (by omega)]
def orB (P : Nat → Bool) : Nat → Int32
  | 0 => 0
  | n + 1 => if P n = true then orB P n ||| (nI 1 <<< (nI n &&& 31)) else orB P n
theorem orB_t {P : Nat → Bool} {n : Nat} (h : P n = true) : orB P (n + 1) = orB P n ||| (nI 1 <<< (nI n &&& 31)) := by
  show (if P n = true then orB P n ||| (nI 1 <<< (nI n &&& 31)) else orB P n) = _
  rw [if_pos h]
theorem orB_f {P : Nat → Bool} {n : Nat} (h : ¬ P n = true) : orB P (n + 1) = orB P n := by
  show (if P n = true then orB P n ||| (nI 1 <<< (nI n &&& 31)) else orB P n) = _
  rw [if_neg h]
theorem orB_bt (P : Nat → Bool) : ∀ n, n ≤ 32 → ∀ i, i < 32 → bt (orB P n) i = (decide (i < n) && P i) := by
  intro n
  induction n with
  | zero =>
    intro _ i _
    rw [decide_eq_false (Nat.not_lt_zero i), Bool.false_and]
    exact b_0 i
  | succ n ih =>
    intro hn i hi
    have h1 := ih (by omega) i hi
    have h2 : i ≠ n → decide (i < n) = decide (i < n + 1) := fun e => decide_eq_decide.mpr (by omega)
    by_cases hp : P n = true
    · rw [orB_t hp, b_or, h1, b_one (by omega) hi]
      by_cases e2 : i = n
      · subst e2
        rw [hp, decide_eq_true (rfl : i = i), decide_eq_true (Nat.lt_succ_self i), Bool.or_true, Bool.true_and]
      · rw [decide_eq_false e2, Bool.or_false, h2 e2]
    · rw [orB_f hp, h1]
      by_cases e2 : i = n
      · subst e2
        rw [Bool.eq_false_iff.mpr hp, Bool.and_false, Bool.and_false]
      · rw [h2 e2]
theorem orB_at (P : Nat → Bool) {i : Nat} (hi : i < 32) : bt (orB P 32) i = P i := by
  rw [orB_bt P 32 (Nat.le_refl _) i hi, decide_eq_true hi, Bool.true_and]
theorem orB_or (P Q : Nat → Bool) : orB P 32 ||| orB Q 32 = orB (fun i => P i || Q i) 32 := b_ext (fun i hi => by rw [b_or, orB_at P hi, orB_at Q hi, orB_at _ hi])
theorem orB_self (w : Int32) : orB (bitm w) 32 = w := b_ext (fun i hi => by rw [orB_at _ hi, bitm_bt w hi])
theorem orB_congr {P Q : Nat → Bool} (h : ∀ i, i < 32 → P i = Q i) : orB P 32 = orB Q 32 := b_ext (fun i hi => by rw [orB_at _ hi, orB_at _ hi, h i hi])
/-- the model's table t, as a list -/
def TLn (y : MSt) (t : Nat) : Nat → List (Nat × Int32)
  | 0 => []
  | n + 1 => TLn y t n ++ (if bitm (mks y t) n = true then [(n, mvs y (32 * t + n))] else [])
def TL (y : MSt) (t : Nat) : List (Nat × Int32) := TLn y t 32
theorem TLn_t {y : MSt} {t n : Nat} (h : bitm (mks y t) n = true) : TLn y t (n + 1) = TLn y t n ++ [(n, mvs y (32 * t + n))] := by
  show TLn y t n ++ (if bitm (mks y t) n = true then [(n, mvs y (32 * t + n))] else []) = _
  rw [if_pos h]
theorem TLn_f {y : MSt} {t n : Nat} (h : ¬ bitm (mks y t) n = true) : TLn y t (n + 1) = TLn y t n := by
  show TLn y t n ++ (if bitm (mks y t) n = true then [(n, mvs y (32 * t + n))] else []) = _
  rw [if_neg h, List.append_nil]
theorem TLn_mem (y : MSt) (t : Nat) : ∀ n e, e ∈ TLn y t n ↔ e.1 < n ∧ bitm (mks y t) e.1 = true ∧ e.2 = mvs y (32 * t + e.1) := by
  intro n
  induction n with
  | zero => intro e; exact ⟨fun h => absurd h List.not_mem_nil, fun h => absurd h.1 (Nat.not_lt_zero _)⟩
  | succ n ih =>
    intro e
    by_cases hb : bitm (mks y t) n = true
    · rw [TLn_t hb, List.mem_append, ih e, List.mem_singleton]
      constructor
      · rintro (⟨h1, h2, h3⟩ | h)
        · exact ⟨by omega, h2, h3⟩
        · subst h
          exact ⟨Nat.lt_succ_self n, hb, rfl⟩
      · rintro ⟨h1, h2, h3⟩
        by_cases e2 : e.1 = n
        · exact Or.inr (Prod.ext e2 (by rw [h3, e2]))
        · exact Or.inl ⟨by omega, h2, h3⟩
    · rw [TLn_f hb, ih e]
      constructor
      · rintro ⟨h1, h2, h3⟩
        exact ⟨by omega, h2, h3⟩
      · rintro ⟨h1, h2, h3⟩
        by_cases e2 : e.1 = n
        · rw [e2] at h2
          exact absurd h2 hb
        · exact ⟨by omega, h2, h3⟩
theorem TL_mem {y : MSt} {t : Nat} {e : Nat × Int32} : e ∈ TL y t ↔ e.1 < 32 ∧ bitm (mks y t) e.1 = true ∧ e.2 = mvs y (32 * t + e.1) := TLn_mem y t 32 e
theorem TL_in {y : MSt} {t i : Nat} (hi : i < 32) (h : bitm (mks y t) i = true) : (i, mvs y (32 * t + i)) ∈ TL y t := TL_mem.mpr ⟨hi, h, rfl⟩
theorem TLn_srt (y : MSt) (t : Nat) : ∀ n, srt (TLn y t n) := by
  intro n
  induction n with
  | zero => exact srt_nil
  | succ n ih =>
    by_cases hb : bitm (mks y t) n = true
    · rw [TLn_t hb]
      refine srt_app.mpr ⟨ih, srt_cons.mpr ⟨fun b hb => absurd hb List.not_mem_nil, srt_nil⟩, fun a ha b hb => ?_⟩
      rw [List.mem_singleton.mp hb]
      exact ((TLn_mem y t n a).mp ha).1
    · rw [TLn_f hb]; exact ih
theorem TL_of {F : List (Nat × Int32)} {y : MSt} {t : Nat} (hs : srt F) (h : ∀ e, e ∈ F ↔ e.1 < 32 ∧ bitm (mks y t) e.1 = true ∧ e.2 = mvs y (32 * t + e.1)) : F = TL y t := srt_ext hs (TLn_srt y t 32) (fun e => (h e).trans TL_mem.symm)
theorem TL_congr {y y' : MSt} {t t' : Nat} (h1 : mks y' t' = mks y t) (h2 : ∀ i, i < 32 → mvs y' (32 * t' + i) = mvs y (32 * t + i)) : TL y' t' = TL y t := by
  refine (TL_of (TLn_srt y' t' 32) (fun e => ?_))
  rw [TL_mem, h1]
  constructor
  · rintro ⟨a, b, c⟩; exact ⟨a, b, by rw [c, h2 _ a]⟩
  · rintro ⟨a, b, c⟩; exact ⟨a, b, by rw [c, h2 _ a]⟩
/-- ranks -/
def rkL (L : List (Nat × Int32)) (k : Int32) : Nat := (L.filter (fun e => decide (nI e.1 < k))).length
theorem rkL_cut {L1 L2 : List (Nat × Int32)} {k : Int32} (h1 : ∀ e ∈ L1, nI e.1 < k) (h2 : ∀ e ∈ L2, ¬ nI e.1 < k) : rkL (L1 ++ L2) k = L1.length := by
  unfold rkL
  rw [List.filter_append, List.filter_eq_self.mpr (fun e he => decide_eq_true (h1 e he)), List.filter_eq_nil_iff.mpr (fun e he h => h2 e he (of_decide_eq_true h)), List.append_nil]
theorem rkO_L (y : MSt) (t : Nat) (k : Int32) : ∀ n, rkO y (some t) k n = rkL (TLn y t n) k := by
  intro n
  induction n with
  | zero => rfl
  | succ n ih =>
    show rkO y (some t) k n + (if nI n < k ∧ bitm (mks y t) n = true then 1 else 0) = _
    by_cases hb : bitm (mks y t) n = true
    · rw [TLn_t hb]
      unfold rkL
      rw [List.filter_append, List.length_append]
      by_cases hk : nI n < k
      · have ef : List.filter (fun e => decide (nI e.1 < k)) [(n, mvs y (32 * t + n))] = [(n, mvs y (32 * t + n))] := by simp [hk]
        rw [if_pos ⟨hk, hb⟩, ih, ef]
        rfl
      · have ef : List.filter (fun e => decide (nI e.1 < k)) [(n, mvs y (32 * t + n))] = [] := by simp [hk]
        rw [if_neg (fun q => hk q.1), ih, ef]
        rfl
    · rw [TLn_f hb, if_neg (fun q => hb q.2), ih]
      rfl
theorem sumF_T (y : MSt) (t : Nat) (a b : Int32) : ∀ n, sumF a b (TLn y t n) 0 = smM y (some t) a b n := by
  intro n
  induction n with
  | zero => rfl
  | succ n ih =>
    have e1 : smM y (some t) a b (n + 1) = if ¬ nI n < a ∧ ¬ b < nI n ∧ bitm (mks y t) n = true then smM y (some t) a b n + mvs y (32 * t + n) else smM y (some t) a b n := rfl
    rw [e1]
    by_cases hb : bitm (mks y t) n = true
    · rw [TLn_t hb, sumF_app, ih]
      show smM y (some t) a b n + (if ¬ nI n < a ∧ ¬ b < nI n then mvs y (32 * t + n) else 0) = _
      by_cases hc : ¬ nI n < a ∧ ¬ b < nI n
      · rw [if_pos hc, if_pos ⟨hc.1, hc.2, hb⟩]
      · rw [if_neg hc, if_neg (fun q => hc ⟨q.1, q.2.1⟩)]
        exact Int32.add_zero _
    · rw [TLn_f hb, if_neg (fun q => hb q.2.2), ih]
theorem orF_T (y : MSt) (t : Nat) : ∀ n, orF (TLn y t n) 0 = orB (bitm (mks y t)) n := by
  intro n
  induction n with
  | zero => rfl
  | succ n ih =>
    by_cases hb : bitm (mks y t) n = true
    · rw [TLn_t hb, orF_app, ih, orB_t hb]
      rfl
    · rw [TLn_f hb, orB_f hb, ih]
theorem misF_T (x : St) (o : Nat) (y : MSt) (t : Nat) : ∀ n, misF x o (TLn y t n) 0 = orB (fun i => bitm (mks y t) i && !(sameB x o (i, mvs y (32 * t + i)))) n := by
  intro n
  induction n with
  | zero => rfl
  | succ n ih =>
    by_cases hb : bitm (mks y t) n = true
    · rw [TLn_t hb, misF_app, ih]
      show (if sameB x o (n, mvs y (32 * t + n)) = true then _ else _) = _
      by_cases hs : sameB x o (n, mvs y (32 * t + n)) = true
      · rw [if_pos hs, orB_f (by rw [hb, hs]; decide)]
      · rw [if_neg hs, orB_t (by rw [hb, Bool.eq_false_iff.mpr hs]; rfl)]
    · rw [TLn_f hb, ih, orB_f (by rw [Bool.eq_false_iff.mpr hb, Bool.false_and]; decide)]
theorem dfM_B (y : MSt) (t u : Nat) : ∀ n, dfM y t u n = orB (fun i => !(smeM y t u i)) n := by
  intro n
  induction n with
  | zero => rfl
  | succ n ih =>
    show (if smeM y t u n = true then dfM y t u n else dfM y t u n ||| (nI 1 <<< (nI n &&& 31))) = _
    by_cases hs : smeM y t u n = true
    · rw [if_pos hs, ih, orB_f (by rw [hs]; decide)]
    · rw [if_neg hs, ih, orB_t (by rw [Bool.eq_false_iff.mpr hs]; rfl)]
end
section
/-! the tree and the model side by side: what they answer -/
def JJ (B : Nat) (x : St) (y : MSt) : Prop := INV x ∧ xla x ≤ B ∧ mlo y = xfk x ∧ mhi y = xla x ∧ FL x (xwk x) = TL y 0 ∧ ∀ n, xfk x ≤ n → n ≤ xla x → FL x (xvr x (n % 4)) = TL y (1 + n % 4)
def TB (x : St) (y : MSt) (r t : Nat) : Prop := Bd x ∧ WF x r ∧ FL x r = TL y t
theorem I_le_lt {a b : Int32} (h : ¬ a < b) : b ≤ a := Int32.not_lt.mp h
theorem I_anti {a b : Int32} (h1 : ¬ a < b) (h2 : ¬ b < a) : a = b := Int32.le_antisymm (Int32.not_lt.mp h2) (Int32.not_lt.mp h1)
theorem nI_inj32 {a b : Nat} (ha : a < 32) (hb : b < 32) (h : nI a = nI b) : a = b := (nI_eq (by omega) (by omega)).mp h
theorem J_lt {B : Nat} {x : St} {y : MSt} (h : JJ B x y) (hB : B ≤ 300) : mlo y < 2 ^ 31 ∧ mhi y < 2 ^ 30 ∧ xla x < 2 ^ 30 ∧ mlo y ≤ mhi y + 1 := by
  obtain ⟨hI, hb, e1, e2, -, -⟩ := h
  have hV := hI.1.2.1
  have h1 := hV.2.1
  rw [e1, e2]
  omega
/-- a number between: a version -/
theorem kept_num {f l : Nat} {n : Int32} (hf : f < 2 ^ 31) (hl : l < 2 ^ 31) (h : ¬ n < nI f ∧ ¬ nI l < n) : ∃ N, N < 2 ^ 31 ∧ n = nI N ∧ f ≤ N ∧ N ≤ l := by
  have hn0 : ¬ n < 0 := fun q => h.1 (Int32.lt_of_lt_of_le q (nI_pos' hf))
  obtain ⟨N, hN, rfl⟩ := nI_of hn0
  refine ⟨N, hN, rfl, ?_, ?_⟩
  · rcases Nat.lt_or_ge N f with q | q
    · exact absurd ((nI_ltI hN hf).mpr q) h.1
    · exact q
  · rcases Nat.lt_or_ge l N with q | q
    · exact absurd ((nI_ltI hl hN).mpr q) h.2
    · exact q
theorem J_rt {B : Nat} {x : St} {y : MSt} (h : JJ B x y) (hB : B ≤ 300) (n : Int32) : (rtO x n = none ∧ tbO y n = none) ∨ ∃ r t, rtO x n = some r ∧ tbO y n = some t ∧ TB x y r t := by
  obtain ⟨hI, hb, e1, e2, h0, hv⟩ := h
  have hC := hI.1
  have hBd := hC.1
  have hV := hC.2.1
  have hV2 := hV.2.1
  unfold rtO tbO
  rw [e1, e2]
  by_cases hn : n = 0
  · rw [if_pos hn, if_pos hn]
    exact Or.inr ⟨xwk x, 0, rfl, rfl, hBd, hI.2 _ hBd.2.2.2.2.2.2.2 (wk_live hC), h0⟩
  · rw [if_neg hn, if_neg hn]
    by_cases hk : ¬ n < nI (xfk x) ∧ ¬ nI (xla x) < n
    · rw [if_pos hk, if_pos hk]
      obtain ⟨N, hN, rfl, g1, g2⟩ := kept_num (by omega) (by omega) hk
      rw [vix_nI hN]
      refine Or.inr ⟨_, _, rfl, rfl, hBd, hI.2 _ (hBd.2.2.2.2.2.2.1 _) ?_, hv N g1 g2⟩
      have h5 := vr_live hC (i := N - xfk x) (by unfold vn; omega)
      unfold vrs at h5
      rw [show xfk x + (N - xfk x) = N by omega] at h5
      exact h5
    · rw [if_neg hk, if_neg hk]
      exact Or.inl ⟨rfl, rfl⟩
theorem TB.cut {x : St} {y : MSt} {r t : Nat} (h : TB x y r t) (k : Int32) : ∃ L1 L2, TL y t = L1 ++ L2 ∧ (∀ e ∈ L1, nI e.1 < k) ∧ (∀ e ∈ L2, ¬ nI e.1 < k) ∧ rkN x r k = L1.length ∧ (∀ c, celO x r k = some c → nI (xlk x c) = k ∧ ∃ M, L2 = (xlk x c, xlv x c) :: M) ∧ (celO x r k = none → ∀ e ∈ L2, nI e.1 ≠ k) := by
  obtain ⟨hB, hW, e⟩ := h
  obtain ⟨L1, L2, cF, c⟩ := tab_cut hB hW.2.2.2 (fun i hi => by rw [← EL_len]; exact (hW.2.1 _ (SH_mem.mpr ⟨i, hi, rfl⟩)).1) k
  exact ⟨L1, L2, by rw [← e]; exact cF, c⟩
theorem TB.cel {x : St} {y : MSt} {r t : Nat} (h : TB x y r t) (k : Int32) : (∃ c K, celO x r k = some c ∧ K < 32 ∧ k = nI K ∧ bitm (mks y t) K = true ∧ xlv x c = mvs y (32 * t + K)) ∨ (celO x r k = none ∧ ∀ K, K < 32 → k = nI K → bitm (mks y t) K = false) := by
  obtain ⟨L1, L2, cF, c1, c2, -, c4, c5⟩ := h.cut k
  cases hc : celO x r k with
  | some c =>
    obtain ⟨d1, M, d2⟩ := c4 c hc
    have hm : (xlk x c, xlv x c) ∈ TL y t := by rw [cF, d2]; exact List.mem_append_right _ List.mem_cons_self
    obtain ⟨m1, m2, m3⟩ := TL_mem.mp hm
    exact Or.inl ⟨c, xlk x c, rfl, m1, d1.symm, m2, m3⟩
  | none =>
    refine Or.inr ⟨rfl, fun K hK ek => ?_⟩
    cases hb : bitm (mks y t) K with
    | false => rfl
    | true =>
      have hm := TL_in hK hb
      rw [cF] at hm
      rcases List.mem_append.mp hm with q | q
      · have h9 := c1 _ q
        rw [ek] at h9
        exact absurd h9 Int32.lt_irrefl
      · exact absurd ek.symm (c5 hc _ q)
theorem TB.len {x : St} {y : MSt} {r t : Nat} (_ : TB x y r t) : (TL y t).length ≤ 32 := srt_len32 (TLn_srt y t 32) (fun _ he => (TL_mem.mp he).1)
theorem inV_out {y : MSt} {t : Nat} {k : Int32} (h : ∀ K, K < 32 → k = nI K → bitm (mks y t) K = false) : inV y (some t) k = 0 := by
  by_cases h0 : k < 0
  · show (if k < 0 then (0 : Int32) else _) = 0
    rw [if_pos h0]
  · by_cases h1 : nI 31 < k
    · show (if k < 0 then (0 : Int32) else if nI 31 < k then 0 else _) = 0
      rw [if_neg h0, if_pos h1]
    · obtain ⟨K, hK, rfl⟩ := nI_of h0
      have hK2 : K < 32 := by
        rcases Nat.lt_or_ge 31 K with q | q
        · exact absurd ((nI_ltI (by decide) hK).mpr q) h1
        · omega
      rw [inV_nI y (some t) hK2]
      show (if bitm (mks y t) K = true then (1 : Int32) else 0) = 0
      rw [h K hK2 rfl]
      rfl
theorem inV_in {y : MSt} {t K : Nat} (hK : K < 32) (h : bitm (mks y t) K = true) : inV y (some t) (nI K) = 1 := by
  rw [inV_nI y (some t) hK]
  show (if bitm (mks y t) K = true then (1 : Int32) else 0) = 1
  rw [if_pos h]
theorem L_has {B : Nat} {x : St} {y : MSt} (h : JJ B x y) (hB : B ≤ 300) (n k : Int32) : hasV x n k = inV y (tbO y n) k := by
  unfold hasV
  rcases J_rt h hB n with ⟨e1, e2⟩ | ⟨r, t, e1, e2, hT⟩
  · rw [e1, e2]; rfl
  · rw [e1, e2]
    show (celO x r k).elim (0 : Int32) (fun _ => 1) = _
    rcases hT.cel k with ⟨c, K, f1, f2, rfl, f4, -⟩ | ⟨f1, f2⟩
    · rw [f1, inV_in f2 f4]; rfl
    · rw [f1, inV_out f2]; rfl
theorem L_get {B : Nat} {x : St} {y : MSt} (h : JJ B x y) (hB : B ≤ 300) (n k : Int32) : getV x n k = if inV y (tbO y n) k = 0 then 0 else mvs y (32 * (tbO y n).getD 0 + k.toNatClampNeg) := by
  unfold getV
  rcases J_rt h hB n with ⟨e1, e2⟩ | ⟨r, t, e1, e2, hT⟩
  · rw [e1, e2]; rfl
  · rw [e1, e2]
    show (celO x r k).elim (0 : Int32) (fun c => xlv x c) = _
    rcases hT.cel k with ⟨c, K, f1, f2, rfl, f4, f5⟩ | ⟨f1, f2⟩
    · rw [f1, inV_in f2 f4, if_neg (by decide), nI_clamp (by omega)]
      exact f5
    · rw [f1, inV_out f2, if_pos rfl]; rfl
theorem L_rk {x : St} {y : MSt} {r t : Nat} (hT : TB x y r t) (k : Int32) : rkN x r k = rkO y (some t) k 32 := by
  obtain ⟨L1, L2, cF, c1, c2, c3, -, -⟩ := hT.cut k
  rw [c3, rkO_L, show TLn y t 32 = TL y t from rfl, cF, rkL_cut c1 c2]
theorem L_rank {B : Nat} {x : St} {y : MSt} (h : JJ B x y) (hB : B ≤ 300) (n k : Int32) : rkV x n k = lsV (tbO y n) (rkO y (tbO y n) k 32) := by
  unfold rkV
  rcases J_rt h hB n with ⟨e1, e2⟩ | ⟨r, t, e1, e2, hT⟩
  · rw [e1, e2]; rfl
  · rw [e1, e2]
    show nI (rkN x r k) = nI (rkO y (some t) k 32)
    rw [L_rk hT]
theorem L_count {B : Nat} {x : St} {y : MSt} (h : JJ B x y) (hB : B ≤ 300) (n : Int32) : cntV x n = lsV (tbO y n) (rkO y (tbO y n) (nI 32) 32) := by
  unfold cntV
  rcases J_rt h hB n with ⟨e1, e2⟩ | ⟨r, t, e1, e2, hT⟩
  · rw [e1, e2]; rfl
  · rw [e1, e2]
    show nI (FL x r).length = nI (rkO y (some t) (nI 32) 32)
    rw [rkO_L, show TLn y t 32 = TL y t from rfl, hT.2.2]
    have h9 := rkL_cut (L1 := TL y t) (L2 := []) (k := nI 32) (fun e he => (nI_ltI (by have := (TL_mem.mp he).1; omega) (by decide)).mpr (TL_mem.mp he).1) (fun e he => absurd he List.not_mem_nil)
    rw [List.append_nil] at h9
    rw [h9]
theorem L_sum {B : Nat} {x : St} {y : MSt} (h : JJ B x y) (hB : B ≤ 300) (n a b : Int32) : smV x n a b = smM y (tbO y n) a b 32 := by
  unfold smV
  rcases J_rt h hB n with ⟨e1, e2⟩ | ⟨r, t, e1, e2, hT⟩
  · rw [e1, e2]
    show (0 : Int32) = _
    have h9 : ∀ m, smM y none a b m = 0 := by
      intro m
      induction m with
      | zero => rfl
      | succ m ih =>
        show (if ¬ nI m < a ∧ ¬ b < nI m ∧ false = true then _ else smM y none a b m) = 0
        rw [if_neg (fun q => absurd q.2.2 (by decide)), ih]
    exact (h9 32).symm
  · rw [e1, e2]
    show sumF a b (FL x r) 0 = _
    rw [hT.2.2]
    exact sumF_T y t a b 32
theorem L_keys {B : Nat} {x : St} {y : MSt} (h : JJ B x y) (hB : B ≤ 300) (n : Int32) : ksV x n = (tbO y n).elim 0 (fun t => mks y t) := by
  unfold ksV
  rcases J_rt h hB n with ⟨e1, e2⟩ | ⟨r, t, e1, e2, hT⟩
  · rw [e1, e2]; rfl
  · rw [e1, e2]
    show orF (FL x r) 0 = mks y t
    rw [hT.2.2, show TL y t = TLn y t 32 from rfl, orF_T, orB_self]
theorem same_T {x : St} {y : MSt} {r t : Nat} (hT : TB x y r t) {i : Nat} (hi : i < 32) (v : Int32) : sameB x r (i, v) = (bitm (mks y t) i && decide (mvs y (32 * t + i) = v)) := by
  show (celO x r (nI i)).elim false (fun c => decide (xlv x c = v)) = _
  rcases hT.cel (nI i) with ⟨c, K, f1, f2, f3, f4, f5⟩ | ⟨f1, f2⟩
  · have e := nI_inj32 hi f2 f3
    subst e
    rw [f1, f4, Bool.true_and, ← f5]
    rfl
  · rw [f1, f2 i hi rfl]
    rfl
theorem L_shared {B : Nat} {x : St} {y : MSt} (h : JJ B x y) (hB : B ≤ 300) : ∀ n r, rtO x n = some r → ∀ i, i < xrs x r → ∀ e ∈ EL x (lvs x r i), sameB x r e = true := by
  intro n r hr i hi e he
  rcases J_rt h hB n with ⟨e1, -⟩ | ⟨r', t, e1, -, hT⟩
  · rw [e1] at hr; cases hr
  · rw [e1] at hr
    cases hr
    have hm : e ∈ TL y t := by rw [← hT.2.2]; exact FL_mem.mpr ⟨i, hi, he⟩
    obtain ⟨m1, m2, m3⟩ := TL_mem.mp hm
    rw [show e = (e.1, e.2) from rfl, same_T hT m1, m2, decide_eq_true m3.symm]
    rfl
theorem L_diff {B : Nat} {x : St} {y : MSt} (h : JJ B x y) (hB : B ≤ 300) (n k : Int32) : dfV x n k = (tbO y n).elim 0 (fun t => (tbO y k).elim 0 (fun q => dfM y t q 32)) := by
  unfold dfV
  rcases J_rt h hB n with ⟨e1, e2⟩ | ⟨r, t, e1, e2, hT⟩
  · rw [e1, e2]; rfl
  · rw [e1, e2]
    rcases J_rt h hB k with ⟨g1, g2⟩ | ⟨q, u, g1, g2, hU⟩
    · rw [g1, g2]; rfl
    · rw [g1, g2]
      show misF x q (FL x r) 0 ||| misF x r (FL x q) 0 = dfM y t u 32
      rw [hT.2.2, hU.2.2, show TL y t = TLn y t 32 from rfl, show TL y u = TLn y u 32 from rfl, misF_T, misF_T, dfM_B, orB_or]
      refine orB_congr (fun i hi => ?_)
      show ((bitm (mks y t) i && !(sameB x q (i, mvs y (32 * t + i)))) || (bitm (mks y u) i && !(sameB x r (i, mvs y (32 * u + i))))) = !(decide (bitm (mks y t) i = bitm (mks y u) i) && (!(bitm (mks y t) i) || decide (mvs y (32 * t + i) = mvs y (32 * u + i))))
      rw [same_T hU hi, same_T hT hi]
      have hsym : decide (mvs y (32 * u + i) = mvs y (32 * t + i)) = decide (mvs y (32 * t + i) = mvs y (32 * u + i)) := decide_eq_decide.mpr ⟨fun q => q.symm, fun q => q.symm⟩
      rw [hsym]
      generalize bitm (mks y t) i = b1
      generalize bitm (mks y u) i = b2
      generalize decide (mvs y (32 * t + i) = mvs y (32 * u + i)) = b3
      cases b1 <;> cases b2 <;> cases b3 <;> rfl
theorem kaV_T {x : St} {y : MSt} {n : Int32} {r t N : Nat} (e1 : rtO x n = some r) (hT : TB x y r t) (hN : N < 2 ^ 31) : kaV x n (nI N) = ((TL y t)[N]?).elim (-1) (fun e => nI e.1) := by
  unfold kaV
  rw [e1]
  show (if nI N < 0 then (-1 : Int32) else ((FL x r)[(nI N).toNatClampNeg]?).elim (-1) (fun e => nI e.1)) = _
  rw [if_neg (nI_pos hN), nI_clamp hN, hT.2.2]
theorem bitO_none (y : MSt) (i : Nat) : bitO y none i = false := rfl
theorem bitO_some (y : MSt) (t i : Nat) : bitO y (some t) i = bitm (mks y t) i := rfl
end
section
theorem L_from {B : Nat} {x : St} {y : MSt} (h : JJ B x y) (hB : B ≤ 300) (n k a : Int32) (ha : (a = -1 ∧ ∀ j, j < 32 → bitO y (tbO y n) j = true → nI j < k) ∨ ∃ i, i < 32 ∧ a = nI i ∧ bitO y (tbO y n) i = true ∧ ¬ nI i < k ∧ ∀ j, j < i → bitO y (tbO y n) j = true → nI j < k) : frV x n k = a := by
  unfold frV
  rcases J_rt h hB n with ⟨e1, e2⟩ | ⟨r, t, e1, e2, hT⟩
  · rw [e2] at ha
    have e3 : rkV x n k = -1 := by unfold rkV; rw [e1]; rfl
    rw [e3, if_pos (by decide)]
    rcases ha with ⟨rfl, -⟩ | ⟨i, -, -, hb, -, -⟩
    · rfl
    · exact absurd hb (by rw [bitO_none]; decide)
  · rw [e2] at ha
    obtain ⟨L1, L2, cF, c1, c2, c3, -, -⟩ := hT.cut k
    have hlen := hT.len
    have hl1 : L1.length ≤ 32 := by rw [cF, List.length_append] at hlen; omega
    have e3 : rkV x n k = nI L1.length := by
      unfold rkV
      rw [e1, ← c3]
      rfl
    rw [e3, if_neg (nI_pos (by omega)), kaV_T e1 hT (by omega), cF, List.getElem?_append_right (Nat.le_refl _), Nat.sub_self]
    have hsr := TLn_srt y t 32
    rw [show TLn y t 32 = TL y t from rfl, cF] at hsr
    have hsr2 := (srt_app.mp hsr).2.1
    cases L2 with
    | nil =>
      show (-1 : Int32) = a
      rcases ha with ⟨rfl, -⟩ | ⟨i, hi, -, hb, hk, -⟩
      · rfl
      · have hm := TL_in hi hb
        rw [cF, List.append_nil] at hm
        exact absurd (c1 _ hm) hk
    | cons e M =>
      show nI e.1 = a
      have hm : e ∈ TL y t := by rw [cF]; exact List.mem_append_right _ List.mem_cons_self
      obtain ⟨m1, m2, m3⟩ := TL_mem.mp hm
      have hek := c2 e List.mem_cons_self
      rcases ha with ⟨-, hj⟩ | ⟨i, hi, rfl, hb, hk, hj⟩
      · exact absurd (hj e.1 m1 m2) hek
      · rcases Nat.lt_trichotomy i e.1 with z | z | z
        · have hm2 := TL_in hi hb
          rw [cF] at hm2
          rcases List.mem_append.mp hm2 with q | q
          · exact absurd (c1 _ q) hk
          · rcases List.mem_cons.mp q with q | q
            · have h9 : i = e.1 := congrArg Prod.fst q
              omega
            · have h9 : e.1 < i := (srt_cons.mp hsr2).1 _ q
              omega
        · rw [z]
        · exact absurd (hj e.1 z m2) hek
theorem L_upTo {B : Nat} {x : St} {y : MSt} (h : JJ B x y) (hB : B ≤ 300) (n k a : Int32) (ha : (a = -1 ∧ ∀ j, j < 32 → bitO y (tbO y n) j = true → k < nI j) ∨ ∃ i, i < 32 ∧ a = nI i ∧ bitO y (tbO y n) i = true ∧ ¬ k < nI i ∧ ∀ j, i < j → j < 32 → bitO y (tbO y n) j = true → k < nI j) : utV x n k = a := by
  unfold utV
  rcases J_rt h hB n with ⟨e1, e2⟩ | ⟨r, t, e1, e2, hT⟩
  · rw [e2] at ha
    rw [e1]
    show (-1 : Int32) = a
    rcases ha with ⟨rfl, -⟩ | ⟨i, -, -, hb, -, -⟩
    · rfl
    · exact absurd hb (by rw [bitO_none]; decide)
  · rw [e2] at ha
    rw [e1]
    show (celO x r k).elim (kaV x n (rkV x n k - 1)) (fun _ => k) = a
    rcases hT.cel k with ⟨c, K, f1, f2, rfl, f4, f5⟩ | ⟨f1, f2⟩
    · rw [f1]
      show nI K = a
      rcases ha with ⟨-, hj⟩ | ⟨i, hi, rfl, hb, hk, hj⟩
      · exact absurd (hj K f2 f4) Int32.lt_irrefl
      · rcases Nat.lt_trichotomy i K with z | z | z
        · exact absurd (hj K z f2 f4) Int32.lt_irrefl
        · rw [z]
        · exact absurd ((nI_lt32 f2 hi).mpr z) hk
    · rw [f1]
      show kaV x n (rkV x n k - 1) = a
      obtain ⟨L1, L2, cF, c1, c2, c3, -, -⟩ := hT.cut k
      have hlen := hT.len
      have hl1 : L1.length ≤ 32 := by rw [cF, List.length_append] at hlen; omega
      have e3 : rkV x n k = nI L1.length := by
        unfold rkV
        rw [e1, ← c3]
        rfl
      rw [e3]
      have hin : ∀ i, i < 32 → bitm (mks y t) i = true → ¬ k < nI i → (i, mvs y (32 * t + i)) ∈ L1 := by
        intro i hi hb hk
        have hm := TL_in hi hb
        rw [cF] at hm
        rcases List.mem_append.mp hm with q | q
        · exact q
        · have h8 := c2 _ q
          have h9 : k = nI i := I_anti hk h8
          rw [f2 i hi h9] at hb
          exact absurd hb (by decide)
      rcases List.eq_nil_or_concat L1 with hnil | ⟨A, e, hcon⟩
      · subst hnil
        have e4 : kaV x n (nI ([] : List (Nat × Int32)).length - 1) = -1 := by
          unfold kaV
          rw [e1]
          show (if nI 0 - 1 < 0 then (-1 : Int32) else ((FL x r)[(nI 0 - 1).toNatClampNeg]?).elim (-1) (fun e => nI e.1)) = -1
          rw [if_pos (by decide)]
        rw [e4]
        rcases ha with ⟨rfl, -⟩ | ⟨i, hi, -, hb, hk, -⟩
        · rfl
        · exact absurd (hin i hi hb hk) List.not_mem_nil
      · rw [List.concat_eq_append] at hcon
        subst hcon
        rw [List.length_append, List.length_singleton, nI_pred, kaV_T e1 hT (by rw [List.length_append, List.length_singleton] at hl1; omega), cF, List.append_assoc, List.getElem?_append_right (Nat.le_refl _), Nat.sub_self]
        show nI e.1 = a
        have hmA : e ∈ A ++ [e] := List.mem_append_right _ List.mem_cons_self
        have hm : e ∈ TL y t := by rw [cF]; exact List.mem_append_left _ hmA
        obtain ⟨m1, m2, m3⟩ := TL_mem.mp hm
        have hek := c1 e hmA
        have hsr := TLn_srt y t 32
        rw [show TLn y t 32 = TL y t from rfl, cF] at hsr
        have hsr1 := (srt_app.mp (srt_app.mp hsr).1).2.2
        rcases ha with ⟨-, hj⟩ | ⟨i, hi, rfl, hb, hk, hj⟩
        · exact absurd (Int32.lt_trans (hj e.1 m1 m2) hek) Int32.lt_irrefl
        · rcases Nat.lt_trichotomy i e.1 with z | z | z
          · exact absurd (Int32.lt_trans (hj e.1 z m1 m2) hek) Int32.lt_irrefl
          · rw [z]
          · rcases List.mem_append.mp (hin i hi hb hk) with q | q
            · have h9 : i < e.1 := hsr1 _ q e List.mem_cons_self
              omega
            · have h9 : i = e.1 := congrArg Prod.fst (List.mem_singleton.mp q)
              omega
theorem rk_at {y : MSt} {t N : Nat} {e : Nat × Int32} (h : (TL y t)[N]? = some e) : rkO y (some t) (nI e.1) 32 = N := by
  obtain ⟨hlt, he⟩ := List.getElem?_eq_some_iff.mp h
  have hsp : TL y t = (TL y t).take N ++ e :: (TL y t).drop (N + 1) := by
    rw [← he]
    rw [← List.drop_eq_getElem_cons hlt, List.take_append_drop]
  have hsr := TLn_srt y t 32
  rw [show TLn y t 32 = TL y t from rfl, hsp] at hsr
  obtain ⟨s1, s2, s3⟩ := srt_app.mp hsr
  have h32 : ∀ a, a ∈ TL y t → a.1 < 32 := fun a ha => (TL_mem.mp ha).1
  have hem : e ∈ TL y t := List.mem_of_getElem? h
  rw [rkO_L, show TLn y t 32 = TL y t from rfl, hsp, rkL_cut (fun a ha => ?_) (fun a ha => ?_), List.length_take]
  · omega
  · exact (nI_lt32 (h32 a (List.mem_of_mem_take ha)) (h32 e hem)).mpr (s3 a ha e List.mem_cons_self)
  · rcases List.mem_cons.mp ha with q | q
    · rw [q]; exact Int32.lt_irrefl
    · have h9 := (srt_cons.mp s2).1 a q
      exact fun z => by
        have := (nI_lt32 (h32 a (List.mem_of_mem_drop q)) (h32 e hem)).mp z
        omega
theorem L_keyAt {B : Nat} {x : St} {y : MSt} (h : JJ B x y) (hB : B ≤ 300) (n k a : Int32) (ha : (a = -1 ∧ ∀ j, j < 32 → bitO y (tbO y n) j = true → lsV (tbO y n) (rkO y (tbO y n) (nI j) 32) ≠ k) ∨ ∃ i, i < 32 ∧ a = nI i ∧ bitO y (tbO y n) i = true ∧ lsV (tbO y n) (rkO y (tbO y n) (nI i) 32) = k) : kaV x n k = a := by
  rcases J_rt h hB n with ⟨e1, e2⟩ | ⟨r, t, e1, e2, hT⟩
  · rw [e2] at ha
    unfold kaV
    rw [e1]
    show (-1 : Int32) = a
    rcases ha with ⟨rfl, -⟩ | ⟨i, -, -, hb, -⟩
    · rfl
    · exact absurd hb (by rw [bitO_none]; decide)
  · rw [e2] at ha
    have hlen := hT.len
    rcases ha with ⟨rfl, hj⟩ | ⟨i, hi, rfl, hb, hk⟩
    · by_cases h0 : k < 0
      · unfold kaV
        rw [e1]
        show (if k < 0 then (-1 : Int32) else _) = -1
        rw [if_pos h0]
      · obtain ⟨N, hN, rfl⟩ := nI_of h0
        rw [kaV_T e1 hT hN]
        cases hg : (TL y t)[N]? with
        | none => rfl
        | some e =>
          have hm := List.mem_of_getElem? hg
          obtain ⟨m1, m2, -⟩ := TL_mem.mp hm
          refine absurd ?_ (hj e.1 m1 m2)
          show nI (rkO y (some t) (nI e.1) 32) = nI N
          rw [rk_at hg]
    · obtain ⟨N, hg⟩ := List.getElem?_of_mem (TL_in hi hb)
      have h9 := rk_at hg
      have h8 : nI (rkO y (some t) (nI i) 32) = k := hk
      rw [show rkO y (some t) (nI i) 32 = N from h9] at h8
      have hlt := (List.getElem?_eq_some_iff.mp hg).1
      rw [← h8, kaV_T e1 hT (by omega), hg]
      rfl
end
section
/-! what changes: both sides go on together -/
theorem VV_FL {x u : St} (hV : VV x u) (hk : Vk x) {n : Nat} (h1 : xfk x ≤ n) (h2 : n ≤ xla x) : FL u (xvr u (n % 4)) = FL x (xvr x (n % 4)) := by
  obtain ⟨a1, a2, a3, a4⟩ := hV
  have h3 := a4 (n - xfk x) (by unfold vn; omega)
  unfold vrs at h3
  rw [show xfk x + (n - xfk x) = n by omega] at h3
  unfold FL
  rw [a1, h3]
theorem L_put {B : Nat} {x u : St} {y w : MSt} {k v a b : Int32} (h : JJ B x y) (hx : (a = 0 ∧ (k < 0 ∨ nI 31 < k) ∧ u = x) ∨ (a = 1 ∧ ∃ K, K < 32 ∧ k = nI K ∧ INV u ∧ VV x u ∧ PutR (FL x (xwk x)) (FL u (xwk u)) K v)) (hy : (b = 0 ∧ (k < 0 ∨ nI 31 < k) ∧ w = y) ∨ (b = 1 ∧ ∃ K, K < 32 ∧ k = nI K ∧ w = ptM y K v)) : a = b ∧ JJ B u w := by
  have hno : ∀ K, K < 32 → k = nI K → ¬ (k < 0 ∨ nI 31 < k) := by
    intro K hK e q
    subst e
    rcases q with q | q
    · exact nI_pos (by omega) q
    · have := (nI_ltI (by decide) (by omega)).mp q
      omega
  rcases hx with ⟨rfl, hk, rfl⟩ | ⟨rfl, K, hK, e, hI, hV, hP⟩
  · rcases hy with ⟨rfl, -, rfl⟩ | ⟨-, K, hK, e, -⟩
    · exact ⟨rfl, h⟩
    · exact absurd hk (hno K hK e)
  · rcases hy with ⟨-, hk, -⟩ | ⟨rfl, K', hK', e', rfl⟩
    · exact absurd hk (hno K hK e)
    · have eK : K' = K := nI_inj32 hK' hK (e'.symm.trans e)
      subst eK
      obtain ⟨hI0, hb, e1, e2, h0, hv⟩ := h
      have hVk := hI0.1.2.1
      refine ⟨rfl, hI, by rw [hV.2.2.1]; exact hb, by rw [hV.2.1]; exact e1, by rw [hV.2.2.1]; exact e2, ?_, fun n h1 h2 => ?_⟩
      · have hs0 : srt (FL x (xwk x)) := (hI0.2 _ hI0.1.1.2.2.2.2.2.2.2 (wk_live hI0.1)).2.2.2
        refine TL_of (hP.sorted hs0) (fun d => ?_)
        rw [hP.mem d, h0, TL_mem]
        have ek : mks (ptM y K' v) 0 = mks y 0 ||| (nI 1 <<< (nI K' &&& 31)) := upd_at (mks y) 0 (mks y 0 ||| (nI 1 <<< (nI K' &&& 31)))
        have ev : ∀ j, mvs (ptM y K' v) j = upd (mvs y) K' v j := fun _ => rfl
        have hbit : ∀ i, i < 32 → bitm (mks (ptM y K' v) 0) i = (bitm (mks y 0) i || decide (i = K')) := fun i hi => by
          rw [ek, bitm_bt _ hi, b_or, b_one hK' hi, bitm_bt _ hi]
        constructor
        · rintro (rfl | ⟨⟨d1, d2, d3⟩, d4⟩)
          · refine ⟨hK', ?_, ?_⟩
            · show bitm (mks (ptM y K' v) 0) K' = true
              rw [hbit K' hK', decide_eq_true (rfl : K' = K'), Bool.or_true]
            · show v = mvs (ptM y K' v) (32 * 0 + K')
              rw [ev, Nat.mul_zero, Nat.zero_add, upd_at]
          · refine ⟨d1, ?_, ?_⟩
            · rw [hbit d.1 d1, d2, Bool.true_or]
            · rw [ev, upd_ne (by omega), d3]
        · rintro ⟨d1, d2, d3⟩
          by_cases hd : d.1 = K'
          · refine Or.inl (Prod.ext hd ?_)
            rw [d3, ev, Nat.mul_zero, Nat.zero_add, hd, upd_at]
          · rw [hbit d.1 d1, decide_eq_false hd, Bool.or_false] at d2
            rw [ev, upd_ne (by omega)] at d3
            exact Or.inr ⟨⟨d1, d2, d3⟩, hd⟩
      · rw [hV.2.1] at h1
        rw [hV.2.2.1] at h2
        rw [VV_FL hV hVk h1 h2, hv n h1 h2]
        have e3 : mks (ptM y K' v) (1 + n % 4) = mks y (1 + n % 4) := upd_ne (f := mks y) (k := 0) (v := mks y 0 ||| (nI 1 <<< (nI K' &&& 31))) (j := 1 + n % 4) (by omega)
        have e4 : ∀ i, i < 32 → mvs (ptM y K' v) (32 * (1 + n % 4) + i) = mvs y (32 * (1 + n % 4) + i) := fun i hi => upd_ne (f := mvs y) (k := K') (v := v) (j := 32 * (1 + n % 4) + i) (by omega)
        exact (TL_congr (y := y) (y' := ptM y K' v) (t := 1 + n % 4) (t' := 1 + n % 4) e3 e4).symm
theorem L_remove {B : Nat} {x u : St} {y w : MSt} {k a b : Int32} (h : JJ B x y) (hx : (a = 0 ∧ (∀ e ∈ FL x (xwk x), nI e.1 ≠ k) ∧ u = x) ∨ (a = 1 ∧ ∃ K, K < 32 ∧ k = nI K ∧ INV u ∧ VV x u ∧ RemR (FL x (xwk x)) (FL u (xwk u)) K)) (hy : (b = 0 ∧ inV y (some 0) k = 0 ∧ w = y) ∨ (b = 1 ∧ inV y (some 0) k ≠ 0 ∧ w = rmM y k)) : a = b ∧ JJ B u w := by
  have hh := h
  obtain ⟨hI0, hb, e1, e2, h0, hv⟩ := h
  have hVk := hI0.1.2.1
  rcases hx with ⟨rfl, hk, rfl⟩ | ⟨rfl, K, hK, rfl, hI, hV, hP⟩
  · have hz : inV y (some 0) k = 0 := inV_out (fun K hK ek => by
      cases hb2 : bitm (mks y 0) K with
      | false => rfl
      | true =>
        have hm := TL_in hK hb2
        rw [← h0] at hm
        exact absurd ek.symm (hk _ hm))
    rcases hy with ⟨rfl, -, rfl⟩ | ⟨-, hne, -⟩
    · exact ⟨rfl, hh⟩
    · exact absurd hz hne
  · have hmK : ∃ v0, (K, v0) ∈ FL x (xwk x) := by
      obtain ⟨L1, L2, w0, q1, -⟩ := hP
      exact ⟨w0, by rw [q1]; exact List.mem_append_right _ List.mem_cons_self⟩
    obtain ⟨v0, hmK⟩ := hmK
    rw [h0] at hmK
    have hone : inV y (some 0) (nI K) = 1 := inV_in hK (TL_mem.mp hmK).2.1
    rcases hy with ⟨-, hz, -⟩ | ⟨rfl, -, rfl⟩
    · rw [hone] at hz
      exact absurd hz (by decide)
    · refine ⟨rfl, hI, by rw [hV.2.2.1]; exact hb, by rw [hV.2.1]; exact e1, by rw [hV.2.2.1]; exact e2, ?_, fun n h1 h2 => ?_⟩
      · have hs0 : srt (FL x (xwk x)) := (hI0.2 _ hI0.1.1.2.2.2.2.2.2.2 (wk_live hI0.1)).2.2.2
        refine TL_of (hP.sorted hs0) (fun d => ?_)
        rw [hP.mem hs0 d, h0, TL_mem]
        have ek : mks (rmM y (nI K)) 0 = mks y 0 &&& ((nI 1 <<< (nI K &&& 31)) ^^^ (-1)) := upd_at (mks y) 0 (mks y 0 &&& ((nI 1 <<< (nI K &&& 31)) ^^^ (-1)))
        have ev : ∀ j, mvs (rmM y (nI K)) j = mvs y j := fun _ => rfl
        have hbit : ∀ i, i < 32 → bitm (mks (rmM y (nI K)) 0) i = (bitm (mks y 0) i && !(decide (i = K))) := fun i hi => by
          rw [ek, bitm_bt _ hi, b_and, b_xor, b_one hK hi, b_m1 i hi, bitm_bt _ hi, Bool.xor_true]
        constructor
        · rintro ⟨⟨d1, d2, d3⟩, d4⟩
          refine ⟨d1, ?_, d3⟩
          rw [hbit d.1 d1, d2, decide_eq_false d4]
          rfl
        · rintro ⟨d1, d2, d3⟩
          rw [hbit d.1 d1, Bool.and_eq_true] at d2
          refine ⟨⟨d1, d2.1, d3⟩, fun hd => ?_⟩
          have h9 := d2.2
          rw [decide_eq_true hd] at h9
          exact absurd h9 (by decide)
      · rw [hV.2.1] at h1
        rw [hV.2.2.1] at h2
        rw [VV_FL hV hVk h1 h2, hv n h1 h2]
        have e3 : mks (rmM y (nI K)) (1 + n % 4) = mks y (1 + n % 4) := upd_ne (f := mks y) (k := 0) (v := mks y 0 &&& ((nI 1 <<< (nI K &&& 31)) ^^^ (-1))) (j := 1 + n % 4) (by omega)
        have e4 : ∀ i, i < 32 → mvs (rmM y (nI K)) (32 * (1 + n % 4) + i) = mvs y (32 * (1 + n % 4) + i) := fun i hi => rfl
        exact (TL_congr (y := y) (y' := rmM y (nI K)) (t := 1 + n % 4) (t' := 1 + n % 4) e3 e4).symm
theorem TL_cp {y : MSt} {fr to : Nat} : TL (cpM y fr to) to = TL y fr := by
  refine TL_congr (upd_at _ _ _) (fun i hi => ?_)
  show cpy (mvs y) (32 * fr) (32 * to) 32 (32 * to + i) = _
  unfold cpy
  rw [if_pos (by omega)]
  congr 1
  omega
theorem TL_cpo {y : MSt} {fr to t : Nat} (h : t ≠ to) : TL (cpM y fr to) t = TL y t := by
  refine TL_congr (upd_ne h) (fun i hi => ?_)
  exact cpy_out _ (by omega)
theorem TL_hi {y : MSt} {g t : Nat} : TL (zhi y g) t = TL y t := TL_congr rfl (fun _ _ => rfl)
theorem TL_lo {y : MSt} {g t : Nat} : TL (zlo y g) t = TL y t := TL_congr rfl (fun _ _ => rfl)
theorem L_save {B : Nat} {x u : St} {y w : MSt} {a b : Int32} (h : JJ B x y) (hx : a = nI (xla x + 1) ∧ SavR x u) (hy : b = nI (mhi y + 1) ∧ w = svM y) : a = b ∧ JJ (B + 1) u w := by
  obtain ⟨hI0, hb, e1, e2, h0, hv⟩ := h
  obtain ⟨rfl, hI, s1, s2, s3, s4, s5⟩ := hx
  obtain ⟨rfl, rfl⟩ := hy
  have hVk := hI0.1.2.1
  have hV1 := hVk.1
  have hV2 := hVk.2.1
  have hV3 := hVk.2.2
  refine ⟨by rw [e2], hI, by rw [s3]; omega, ?_, ?_, ?_, fun n h1 h2 => ?_⟩
  · show (if 4 ≤ mhi y + 1 - mlo y then mhi y + 1 - 3 else mlo y) = _
    rw [s4, e1, e2]
  · show mhi y + 1 = _
    rw [s3, e2]
  · unfold svM
    rw [TL_lo, TL_cpo (by omega), TL_hi, ← h0]
    unfold FL
    rw [s1, s2]
  · have hfl : FL u (xvr u (n % 4)) = if n = xla x + 1 then FL x (xwk x) else FL x (xvr x (n % 4)) := by
      unfold FL
      rw [s5 n h1 h2]
      by_cases e : n = xla x + 1
      · rw [if_pos e, if_pos e]
      · rw [if_neg e, if_neg e]
    rw [hfl]
    unfold svM
    rw [TL_lo, e2]
    rw [s3] at h2
    obtain ⟨hf1, hf2⟩ : xfk x ≤ xfk u ∧ xla x + 1 ≤ xfk u + 3 := by
      rw [s4]
      by_cases e : 4 ≤ xla x + 1 - xfk x
      · rw [if_pos e]; omega
      · rw [if_neg e]; omega
    by_cases e : n = xla x + 1
    · rw [if_pos e, e, TL_cp, TL_hi, h0]
    · rw [if_neg e, TL_cpo (by omega), TL_hi, hv n (by omega) (by omega)]
theorem L_goBack {B : Nat} {x u : St} {y w : MSt} {n a b : Int32} (h : JJ B x y) (hB : B ≤ 300) (hx : (a = 0 ∧ ¬ keptP x n ∧ u = x) ∨ (a = 1 ∧ ∃ N, N < 2 ^ 31 ∧ n = nI N ∧ xfk x ≤ N ∧ N ≤ xla x ∧ GbR x N u)) (hy : (b = 0 ∧ (n = 0 ∨ tbO y n = none) ∧ w = y) ∨ (b = 1 ∧ ∃ N, N < 2 ^ 31 ∧ n = nI N ∧ n ≠ 0 ∧ tbO y n = some (1 + vix n) ∧ w = zhi (cpM y (1 + vix n) 0) N)) : a = b ∧ JJ B u w := by
  have hh := h
  obtain ⟨hI0, hb, e1, e2, h0, hv⟩ := h
  have hVk := hI0.1.2.1
  have hV1 := hVk.1
  have hV2 := hVk.2.1
  have hV3 := hVk.2.2
  rcases hx with ⟨rfl, hk, rfl⟩ | ⟨rfl, N, hN, rfl, g1, g2, hG⟩
  · rcases hy with ⟨rfl, -, rfl⟩ | ⟨-, N, hN, e, hne, ht, -⟩
    · exact ⟨rfl, hh⟩
    · exfalso
      unfold tbO at ht
      rw [if_neg hne, e1, e2] at ht
      by_cases hq : ¬ n < nI (xfk u) ∧ ¬ nI (xla u) < n
      · exact hk hq
      · rw [if_neg hq] at ht
        cases ht
  · have hkept : ¬ nI N < nI (xfk x) ∧ ¬ nI (xla x) < nI N := ⟨nI_nlt g1 hN, nI_nlt g2 (by omega)⟩
    have hne : nI N ≠ 0 := nI_ne0 (by omega) hN
    rcases hy with ⟨-, hz, -⟩ | ⟨rfl, N', hN', e, -, -, rfl⟩
    · exfalso
      rcases hz with hz | hz
      · exact hne hz
      · unfold tbO at hz
        rw [if_neg hne, e1, e2, if_pos hkept] at hz
        cases hz
    · have eN : N' = N := ((nI_eq hN hN').mp e).symm
      subst eN
      obtain ⟨hI, s2, s3, s4, s5⟩ := hG
      refine ⟨rfl, hI, by rw [s4]; omega, ?_, ?_, ?_, fun m h1 h2 => ?_⟩
      · rw [s3]; exact e1
      · rw [s4]
      · rw [TL_hi, vix_nI hN, TL_cp, ← hv N' g1 g2]
        unfold FL
        rw [s2]
      · rw [TL_hi, TL_cpo (by omega)]
        rw [s3] at h1
        rw [s4] at h2
        rw [← hv m h1 (by omega)]
        unfold FL
        rw [s5 m h1 h2]
theorem L_kept {B : Nat} {x : St} {y : MSt} (h : JJ B x y) : (if nI (xfk x) ≤ nI (xla x) then nI (xfk x + 1000 * xla x) else 0) = (if nI (mlo y) ≤ nI (mhi y) then nI (mlo y + 1000 * mhi y) else 0) := by
  obtain ⟨-, -, e1, e2, -, -⟩ := h
  rw [e1, e2]
theorem JJ.mono {B B' : Nat} {x : St} {y : MSt} (h : JJ B x y) (hB : B ≤ B') : JJ B' x y := ⟨h.1, Nat.le_trans h.2.1 hB, h.2.2⟩
/-- at their birth -/
theorem JJ_0 : JJ 0 x0T y0M := by
  have hrs : ∀ r, xrs x0T r = 0 := fun _ => rfl
  have hSH : ∀ r, SH x0T r = [] := fun _ => rfl
  have hW : ∀ r, WF x0T r := fun r => by
    show WFs (SH x0T r)
    rw [hSH]
    exact ⟨by decide, fun E hE => absurd hE List.not_mem_nil, fun q => absurd q (by decide), srt_nil⟩
  have hbit : ∀ i, i < 32 → bitm (0 : Int32) i = false := fun i hi => by rw [bitm_bt _ hi, b_0]
  have hTL : ∀ t, TL y0M t = [] := fun t => by
    refine (TL_of srt_nil (fun e => ⟨fun q => absurd q List.not_mem_nil, fun q => ?_⟩)).symm
    have h9 : bitm (0 : Int32) e.1 = true := q.2.1
    rw [hbit e.1 q.1] at h9
    exact absurd h9 (by decide)
  refine ⟨⟨⟨?_, ?_, ?_, ?_⟩, fun r _ _ => hW r⟩, Nat.le_refl _, rfl, rfl, ?_, fun n h1 h2 => ?_⟩
  · exact ⟨fun _ => show (0 : Nat) < 128 by decide, fun _ => show (0 : Nat) ≤ 5 by decide, fun _ => show (0 : Nat) < 32 by decide, updN_lt (fun _ => show (0 : Nat) < 128 by decide) (by decide), fun _ => show (0 : Nat) ≤ 17 by decide, fun _ => show (0 : Nat) < 96 by decide, fun _ => show (0 : Nat) < 8 by decide, show (0 : Nat) < 8 by decide⟩
  · exact ⟨show (1 : Nat) ≤ 1 by decide, show (1 : Nat) ≤ 0 + 1 by decide, show (0 : Nat) ≤ 1 + 3 by decide⟩
  · intro r hr
    show updN (fun _ => 0) 0 1 r = (if 0 = r then 1 else 0) + 0
    by_cases e : r = 0
    · subst e; rfl
    · have e' : ¬ 0 = r := fun q => e q.symm
      show (if r = 0 then 1 else 0) = (if 0 = r then 1 else 0) + 0
      simp [e, e']
  · intro v hv
    show 0 = sm8 (cr x0T v)
    have hc : ∀ r, r < 8 → cr x0T v r = 0 := fun r _ => by
      unfold cr
      rw [hrs r]
      by_cases e : 0 < xru x0T r
      · rw [if_pos e]; rfl
      · rw [if_neg e]
    rw [sm8_congr hc]
    rfl
  · rw [hTL]; rfl
  · have h3 : (1 : Nat) ≤ n := h1
    have h4 : n ≤ 0 := h2
    omega
end
section
set_option maxRecDepth 100000
/-! THE CLAIM OUT OF ONE WALK OF THE LAW'S BODY. Your part is whole_start (and what it stands on); all else here is the same for every law, but numbers. -/
def R_law : String := "VersionTreeLaw"
def lw_P (b : Addr) (xs : List Int32) (args : Array Value) (s : State) : Prop := args = #[.ref b] ∧ s.IntsAt b xs ∧ xs.length ≤ 256 ∧ (Jvm.Cond.and given_1 narrow_1).before args s = true
def lw_Q (_ : Array Value) (s : State) (o : Outcome) (t : State) : Prop := o = .returned (some (.int 1)) ∧ Framed s o t [] 600000 7290000
def lw_Z (below : List Frame) (a : Array Value) (s : State) : State → Prop := fun t => ∃ o, t.status = .running ∧ Ended t below o ∧ lw_Q a s o t
/-- the law's own end, with 1 on the stack, nothing written that was there before, its room as the claim has it -/
theorem lw_ret {p : Program} {l : Launch} {e : Env} {s : State} {m : MethodId} {below : List Frame} {meth : Method} {c : Code} {b : Nat} (hx : p.tables.exec = Jvm.exec) (hb : c.code = code) (hr : meth.sig.returnType = ret) (hlocks : meth.locks = false) {pc : Nat} {H : Heap} {ls : Array Slot} (hdg : decode code pc = .ok (.ireturn, 1)) : W p l e room_1 s m #[Value.ref b] below meth c H [] 600000 7290000 (lw_Z below #[Value.ref b] s) (F0 m pc ls [.int 1]) := by
  intro T hT X
  obtain ⟨fs, hret, hrun, hended, hW, hframe⟩ := X.leave (v := some (.int 1)) (hlocks := hlocks) (fun h => by rw [hr] at h; cases h)
  have hmeth' : T.vm.method? m = some meth := X.method'
  refine ⟨T.setFrames fs, ?_, .returned (some (.int 1)), hrun, hended, rfl, ⟨_, rfl⟩, hW, hframe⟩
  jvm_step X.here [X.here.top, hx, hb, hdg, hmeth', hr, ret, narrow_b1]
  (try refine ⟨rfl, ?_⟩); (try refine ⟨rfl, ?_⟩)
  first | (intro acts; rw [hret _ acts rfl rfl rfl]) | rw [hret _ _ rfl rfl rfl]
  exact Steps.refl _
/-- what holds at the law's entry: the machine, the code, the tables' words (any of lw_tbl by 'hts w (by decide +kernel)'), the script of L ints xs at the cell b, what the Statement gives of the start (any of its parts by flat_of_before) -/
def lw_At (p : Program) (s : State) (m : MethodId) (meth : Method) (c : Code) (b L : Nat) (xs : Nat → Int32) : Prop :=
  p.tables.exec = Jvm.exec ∧ c.code = code ∧ meth.sig.returnType = ret ∧ c.maxLocals = 4 ∧ s.vm.findClass R_law = some m.cls ∧ (∀ w ∈ lw_tbl, w.before #[Value.ref b] s = true) ∧ va_X b L xs s s.heap ∧ b < s.heap.size ∧ meth.locks = false ∧ (Jvm.Cond.and given_1 narrow_1).before #[Value.ref b] s = true
end
section
set_option maxRecDepth 100000
/-! THE LAW's ROWS: the script, both worlds side by side, calls of one of them, new objects -/
abbrev wL (ad am : Nat → Nat) (dB dI : ClassId) (x : St) (y : MSt) : va_W := wT ad dB dI x ++ wM am dI y
section TLR
variable {p : Program} {l : Launch} {e : Env} {R : Room} {s : State} {m : MethodId} {args : Array Value} {below : List Frame} {meth : Method} {c : Code} {cells slots : Nat} {Q : State → Prop} {D : va_G} {A : Nat → Prop} {nL : Nat} {ws : va_W} {pc : Nat} {lv : List (Nat × Value)} {st : List Value}
variable {cc : ByteArray} {own : String} {tys : List (ClassId × FieldType)} {ret : Option FieldType} {ad am : Nat → Nat} {dB dI : ClassId} {x : St} {y : MSt}
variable {y0 : MethodName} {bytes : ByteArray} {maxL dc index : Nat} {rt : Option FieldType} {As : List Value}
theorem tl_sld (C : Cx p s m args meth c D A nL cc own tys ret) {b L : Nat} {xs : Nat → Int32} (hX : va_X b L xs s s.heap) (hbl : b < s.heap.size) (hbA : ¬ A b) (hL : L < 2 ^ 31) {i : Nat} (hi : i < L) (hdg : decode cc pc = .ok (.iaload, 1)) (kk : TW p l e R s m args below meth c cells slots Q D A nL ws (pc + 1) lv (.int (xs i) :: st)) : TW p l e R s m args below meth c cells slots Q D A nL ws pc lv (.int (nI i) :: .ref b :: st) := by
  intro H locs ls hP hD hS hl
  refine va_sld C.1 C.2.1 hX hbl hbA hS (vp_in_nI hi hL) hdg ?_
  rw [nI_clamp (Nat.lt_trans hi hL)]
  exact kk H locs ls hP hD hS hl
theorem tl_slen (C : Cx p s m args meth c D A nL cc own tys ret) {b L : Nat} {xs : Nat → Int32} (hX : va_X b L xs s s.heap) (hbl : b < s.heap.size) (hbA : ¬ A b) (hdg : decode cc pc = .ok (.arraylength, 1)) (kk : TW p l e R s m args below meth c cells slots Q D A nL ws (pc + 1) lv (.int (nI L) :: st)) : TW p l e R s m args below meth c cells slots Q D A nL ws pc lv (.ref b :: st) :=
  fun H locs ls hP hD hS hl => va_slen C.1 C.2.1 hX hbl hbA hS hdg (kk H locs ls hP hD hS hl)
theorem tl_tableIn (C : Cx p s m args meth c D A nL cc own tys ret) {dflt lo hi off : Int} {offs : Array Int} {len : Nat} {v : Int32} (tgt : Nat) (hdg : decode cc pc = .ok (.tableswitch dflt lo hi offs, len)) (h1 : ¬ v.toInt < lo) (h2 : ¬ hi < v.toInt) (ho : offs[(v.toInt - lo).toNat]? = some off) (ht : (pc : Int) + off = (tgt : Int)) (kk : TW p l e R s m args below meth c cells slots Q D A nL ws tgt lv st) : TW p l e R s m args below meth c cells slots Q D A nL ws pc lv (.int v :: st) :=
  fun H locs ls hP hD hS hl => lv_tableIn C.1 C.2.1 hdg h1 h2 ho ht (kk H locs ls hP hD hS hl)
theorem tl_tableOut (C : Cx p s m args meth c D A nL cc own tys ret) {dflt lo hi : Int} {offs : Array Int} {len : Nat} {v : Int32} (tgt : Nat) (hdg : decode cc pc = .ok (.tableswitch dflt lo hi offs, len)) (h : v.toInt < lo ∨ hi < v.toInt) (ht : (pc : Int) + dflt = (tgt : Int)) (kk : TW p l e R s m args below meth c cells slots Q D A nL ws tgt lv st) : TW p l e R s m args below meth c cells slots Q D A nL ws pc lv (.int v :: st) :=
  fun H locs ls hP hD hS hl => lv_tableOut C.1 C.2.1 hdg h ht (kk H locs ls hP hD hS hl)
theorem tl_astore_n (C : Cx p s m args meth c D A nL cc own tys ret) {k : Fin 4} {v : Nat} {lv' : List (Nat × Value)} (hdg : decode cc pc = .ok (.astore_n k, 1)) (hn : (k : Nat) < nL) (he : lset lv k (.ref v) = lv') (kk : TW p l e R s m args below meth c cells slots Q D A nL ws (pc + 1) lv' st) : TW p l e R s m args below meth c cells slots Q D A nL ws pc lv (.ref v :: st) :=
  fun H locs ls hP hD hS hl => lv_astore_n C.1 C.2.1 hdg rfl hl hn rfl (fun ls' hl' => kk H locs ls' hP hD hS (he ▸ lset_has hl'))
theorem tl_callT (C : Cx p s m args meth c D A nL cc own (tyT dB dI) ret) (nA : Nat) (hnA : As.length = nA) {post : Int32 → St → Prop} (hM : TMi l y0 bytes maxL rt dc D (tyT dB dI) (.ref (ad 0) :: As) (wT ad dB dI x) (wT ad dB dI) post) (hq : RX0 = y0.cls) (h1 : Cond.methodLink own index y0 ∈ lw_all) (h2 : Cond.instanceMethod y0 ∈ lw_all) (h3 : Cond.selects y0.cls y0 y0 ∈ lw_all) (h5 : Cond.code y0 bytes maxL rt ∈ lw_all) (hd : y0.cls = y0.cls ∧ y0.cls ≠ "java/lang/invoke/MethodHandle" ∧ y0.cls ≠ "java/lang/invoke/VarHandle" ∧ (parseMethodDescriptor y0.desc).map (fun d => d.parameters.length) = some nA) (hR : dc + 1 ≤ R.frames ∧ 8 + (maxL + 11) + 30 * dc ≤ R.locals) (hC : cells ≤ R.cells ∧ slots ≤ R.slots) {st0 : List Value} (hst : st0 = As.reverse ++ .ref (ad 0) :: st) (hrm : (st.map fun v => v.category).sum ≤ 8) (hdg : decode cc pc = .ok (.invokevirtual index, 3))
    (kk : ∀ (r : Int32) (u : St), post r u → TW p l e R s m args below meth c cells slots Q D A nL (wL ad am dB dI u y) (pc + 3) lv (.int r :: st)) : TW p l e R s m args below meth c cells slots Q D A nL (wL ad am dB dI x y) pc lv st0 := by
  subst hst
  subst hnA
  intro H locs ls hP hD hS hl
  obtain ⟨hx, hb, hml, hown, hts, hA, hK, hlocks, hr⟩ := C
  have hPc := hP.sub (ws' := wT ad dB dI x) [0, 1, 2, 3, 4, 5, 6, 7, 8] rfl
  have hDc := hD.sub (ws' := wT ad dB dI x) [0, 1, 2, 3, 4, 5, 6, 7, 8] (by decide) rfl
  have hFc := va_free (wc := wT ad dB dI x) hD hS hA [0, 1, 2, 3, 4, 5, 6, 7, 8] rfl
  refine va_calli (va_runV (As := As) (rest := st) ⟨hx, hb, hml, hown, hts⟩ (hM H.size) (cwV As.length hts (lw_V h1 h2 h3 (hq ▸ q22) h5) rfl rfl rfl hd hR) ⟨fun a U g mk q => by obtain ⟨q0, q1, qP, qK, qD⟩ := q; exact ⟨q0, q1, qP, va_K.moved (u := U) (U := U.calling g mk a) (Vm.Alike.refl U.vm) qK, qD⟩, hq ▸ va_recv hK hPc (ci := 0) (q0 := 0) rfl rfl, fun U hU hW => ⟨rfl, by rw [hU], by rw [hU]; exact hPc, va_K.moved hW.alike hK, hDc.weaken (fun _ _ _ _ => trivial)⟩⟩ rfl rfl hl.1 rfl (lv_room hrm) hdg hC) hS (fun q _ h => hFc q h) hFc (fun r u t H1 locs ht hvm hw1 hB hz1 hk1 hS => ?_)
  obtain ⟨hP1, -, hD1⟩ := hB
  rw [ht] at hP1
  obtain ⟨hP2, hD2⟩ := va_join (wr := wM am dI y) (w1 := wT ad dB dI u) hP hD [0, 1, 2, 3, 4, 5, 6, 7, 8] [9, 10, 11] rfl rfl (by decide) (by decide) hk1 hFc hP1 hD1
  exact kk r u hw1 H1 locs ls (hP2.sub (ws' := wL ad am dB dI u y) [3, 4, 5, 6, 7, 8, 9, 10, 11, 0, 1, 2] rfl) (hD2.sub (ws' := wL ad am dB dI u y) [3, 4, 5, 6, 7, 8, 9, 10, 11, 0, 1, 2] (by decide) rfl) hS hl
theorem tl_callM (C : Cx p s m args meth c D A nL cc own (tyT dB dI) ret) (nA : Nat) (hnA : As.length = nA) {post : Int32 → MSt → Prop} (hM : TMi l y0 bytes maxL rt dc D (tyT dB dI) (.ref (am 0) :: As) (wM am dI y) (wM am dI) post) (hq : RX1 = y0.cls) (h1 : Cond.methodLink own index y0 ∈ lw_all) (h2 : Cond.instanceMethod y0 ∈ lw_all) (h3 : Cond.selects y0.cls y0 y0 ∈ lw_all) (h5 : Cond.code y0 bytes maxL rt ∈ lw_all) (hd : y0.cls = y0.cls ∧ y0.cls ≠ "java/lang/invoke/MethodHandle" ∧ y0.cls ≠ "java/lang/invoke/VarHandle" ∧ (parseMethodDescriptor y0.desc).map (fun d => d.parameters.length) = some nA) (hR : dc + 1 ≤ R.frames ∧ 8 + (maxL + 11) + 30 * dc ≤ R.locals) (hC : cells ≤ R.cells ∧ slots ≤ R.slots) {st0 : List Value} (hst : st0 = As.reverse ++ .ref (am 0) :: st) (hrm : (st.map fun v => v.category).sum ≤ 8) (hdg : decode cc pc = .ok (.invokevirtual index, 3))
    (kk : ∀ (r : Int32) (u : MSt), post r u → TW p l e R s m args below meth c cells slots Q D A nL (wL ad am dB dI x u) (pc + 3) lv (.int r :: st)) : TW p l e R s m args below meth c cells slots Q D A nL (wL ad am dB dI x y) pc lv st0 := by
  subst hst
  subst hnA
  intro H locs ls hP hD hS hl
  obtain ⟨hx, hb, hml, hown, hts, hA, hK, hlocks, hr⟩ := C
  have hPc := hP.sub (ws' := wM am dI y) [9, 10, 11] rfl
  have hDc := hD.sub (ws' := wM am dI y) [9, 10, 11] (by decide) rfl
  have hFc := va_free (wc := wM am dI y) hD hS hA [9, 10, 11] rfl
  refine va_calli (va_runV (As := As) (rest := st) ⟨hx, hb, hml, hown, hts⟩ (hM H.size) (cwV As.length hts (lw_V h1 h2 h3 (hq ▸ q23) h5) rfl rfl rfl hd hR) ⟨fun a U g mk q => by obtain ⟨q0, q1, qP, qK, qD⟩ := q; exact ⟨q0, q1, qP, va_K.moved (u := U) (U := U.calling g mk a) (Vm.Alike.refl U.vm) qK, qD⟩, hq ▸ va_recv hK hPc (ci := 1) (q0 := 0) rfl rfl, fun U hU hW => ⟨rfl, by rw [hU], by rw [hU]; exact hPc, va_K.moved hW.alike hK, hDc.weaken (fun _ _ _ _ => trivial)⟩⟩ rfl rfl hl.1 rfl (lv_room hrm) hdg hC) hS (fun q _ h => hFc q h) hFc (fun r u t H1 locs ht hvm hw1 hB hz1 hk1 hS => ?_)
  obtain ⟨hP1, -, hD1⟩ := hB
  rw [ht] at hP1
  obtain ⟨hP2, hD2⟩ := va_join (wr := wT ad dB dI x) (w1 := wM am dI u) hP hD [9, 10, 11] [0, 1, 2, 3, 4, 5, 6, 7, 8] rfl rfl (by decide) (by decide) hk1 hFc hP1 hD1
  exact kk r u hw1 H1 locs ls hP2 hD2 hS hl
theorem tl_new (C : Cx p s m args meth c D A nL cc own tys ret) {Cn : String} {T : u_T} {N ci : Nat} (hin : ∀ w ∈ u_ws Cn T N, w ∈ lw_all) (ty : Nat → FieldType) (hty : ∀ k, k < N → parseFieldDescriptor (T k).2.2.1 = some (ty k)) (hcl : Cond.classLink own index Cn ∈ lw_all) (hinst : Cond.instantiable Cn N ∈ lw_all) (hini : Cond.initialized Cn ∈ lw_all) (hc : vwCl[ci]? = some (Cn, T, N)) (fs : List Value) (hfs : ∀ j, j < N → defaultValue (ty j) = vp_V fs j) (cells' slots' : Nat) (hc' : cells + 1 = cells') (hs' : slots + N = slots') (hC : cells' ≤ R.cells ∧ slots' ≤ R.slots) (hdg : decode cc pc = .ok (.new index, 3))
    (kk : ∀ q : Nat, TW p l e R s m args below meth c cells' slots' Q D A nL (ws ++ [(q, .inr (ci, fs))]) (pc + 3) lv (.ref q :: st)) : TW p l e R s m args below meth c cells slots Q D A nL ws pc lv st := by
  subst hc'
  subst hs'
  intro H locs ls hP hD hS hl
  obtain ⟨hx, hb, hml, hown, hts, hA, hK, hlocks, hr⟩ := C
  exact va_new (ci := ci) (fs := fs) (C := Cn) (T := T) (N := N) hx hb hts hin ty hty hown (hts _ hcl) (hts _ hinst) (hts _ hini) hK hP hD hS hA hc hfs hC.1 hC.2 hdg (fun q H1 hP1 hD1 hS1 => kk q H1 locs ls hP1 hD1 hS1 hl)
theorem tl_callI (C : Cx p s m args meth c D A nL cc own tys ret) {rm : Room} {mc ms a : Nat} {S : Type} {wsf : S → va_W} {post : S → Prop} {wc wr : va_W} (isC isR : List Nat) (hM : TNv l y0 bytes maxL rm mc ms D tys [.ref a] wc wsf post) (hP0 : isC.filterMap (fun i => ws[i]?) = wc) (hC0 : isC.map (fun i => ws[i]?) = wc.map some) (hn0 : va_nd isC = true) (hR0 : isR.map (fun i => ws[i]?) = wr.map some) (hn : va_nd isR = true) (hdis : ∀ i ∈ isR, i ∉ isC) (h1 : Cond.methodLink own index y0 ∈ lw_all) (h2 : Cond.instanceMethod y0 ∈ lw_all) (h4 : Cond.initialized y0.cls ∈ lw_all) (h5 : Cond.code y0 bytes maxL none ∈ lw_all) (hy1 : y0.name = "<init>") (hrc : rm.cells = mc) (hrs : rm.slots = ms) (hd : y0.cls ≠ "java/lang/invoke/MethodHandle" ∧ y0.cls ≠ "java/lang/invoke/VarHandle" ∧ (parseMethodDescriptor y0.desc).map (fun d => d.parameters.length) = some 0) (hR : rm.frames + 1 ≤ R.frames ∧ 8 + (maxL + 11) + rm.locals ≤ R.locals) (cells' slots' : Nat) (hc' : cells + mc = cells') (hs' : slots + ms = slots') (hC : cells' ≤ R.cells ∧ slots' ≤ R.slots) (hrm : (st.map fun v => v.category).sum ≤ 8) (hdg : decode cc pc = .ok (.invokespecial index, 3))
    (kk : ∀ (u : S), post u → TW p l e R s m args below meth c cells' slots' Q D A nL (wr ++ wsf u) (pc + 3) lv st) : TW p l e R s m args below meth c cells slots Q D A nL ws pc lv (.ref a :: st) := by
  subst hc'
  subst hs'
  intro H locs ls hP hD hS hl
  obtain ⟨hx, hb, hml, hown, hts, hA, hK, hlocks, hr⟩ := C
  have hPc := hP.sub (ws' := wc) isC hP0
  have hDc := hD.sub (ws' := wc) isC hn0 hC0
  have hFc := va_free (wc := wc) hD hS hA isC hC0
  refine va_callv (va_runI (As := []) (rest := st) ⟨hx, hb, hml, hown, hts⟩ (hM H.size) (cwI 0 hts (lw_meth h5) rfl hrc hrs (hts _ h4) (hts _ h1) (hts _ h2) hy1 hd hR) ⟨fun a U g mk q => by obtain ⟨q0, q1, qP, qK, qD⟩ := q; exact ⟨q0, q1, qP, va_K.moved (u := U) (U := U.calling g mk a) (Vm.Alike.refl U.vm) qK, qD⟩, fun U hU hW => ⟨rfl, by rw [hU], by rw [hU]; exact hPc, va_K.moved hW.alike hK, hDc.weaken (fun _ _ _ _ => trivial)⟩⟩ rfl rfl hl.1 rfl (lv_room hrm) hdg hC) hS (fun q _ h => hFc q h) hFc (fun u t H1 locs ht hvm hw1 hB hz1 hk1 hS => ?_)
  obtain ⟨hP1, -, hD1⟩ := hB
  rw [ht] at hP1
  obtain ⟨hP2, hD2⟩ := va_join (wr := wr) (w1 := wsf u) hP hD isC isR hC0 hR0 hn hdis hk1 hFc hP1 hD1
  exact kk u hw1 H1 locs ls hP2 hD2 hS hl
end TLR
/-- the law at a place: its world, its number -/
def LW (p : Program) (l : Launch) (e : Env) (s : State) (m : MethodId) (below : List Frame) (meth : Method) (c : Code) (D : va_G) (ad am : Nat → Nat) (dB dI : ClassId) (b : Nat) (x : St) (y : MSt) (i pc : Nat) (st : List Value) : Prop := TW p l e room_1 s m #[Value.ref b] below meth c 12 1488 (lw_Z below #[Value.ref b] s) D (fun q => s.heap.size ≤ q) 4 (wL ad am dB dI x y) pc [(0, .ref b), (1, .ref (ad 0)), (2, .ref (am 0)), (3, .int (nI i))] st
/-- what stays all through the law -/
def LC (p : Program) (s : State) (m : MethodId) (meth : Method) (c : Code) (D : va_G) (dB dI : ClassId) (b L : Nat) (xs : Nat → Int32) : Prop := Cx p s m #[Value.ref b] meth c D (fun q => s.heap.size ≤ q) 4 code R_law (tyT dB dI) ret ∧ va_X b L xs s s.heap ∧ b < s.heap.size ∧ L ≤ 256
end
section
set_option maxRecDepth 100000
section CASES
variable {p : Program} {l : Launch} {e : Env} {s : State} {m : MethodId} {below : List Frame} {meth : Method} {c : Code} {D : va_G} {ad am : Nat → Nat} {dB dI : ClassId} {b L : Nat} {xs : Nat → Int32} {x : St} {y : MSt} {i : Nat}
theorem k_put (h : LC p s m meth c D dB dI b L xs) (hJ : JJ i x y) (hi : i + 4 ≤ L) (kk : ∀ u w, JJ (i + 1) u w → LW p l e s m below meth c D ad am dB dI b u w i 533 []) : LW p l e s m below meth c D ad am dB dI b x y i 108 [] := by
  obtain ⟨C, hX, hbl, hL⟩ := h
  have hB : i ≤ 300 := by omega
  have hbA : ¬ (fun q : Nat => s.heap.size ≤ q) b := Nat.not_le.mpr hbl
  unfold LW
  refine tw_aload_n C dL_law_108 rfl ?_
  refine tw_aload_n C dL_law_109 rfl ?_
  refine tw_iload_n C dL_law_110 rfl ?_
  refine tw_iconst C (nI 1) dL_law_111 (by decide) ?_
  refine tn_iadd C dL_law_112 ?_
  refine tl_sld C hX hbl hbA (by omega) (by omega) dL_law_113 ?_
  refine tw_aload_n C dL_law_114 rfl ?_
  refine tw_iload_n C dL_law_115 rfl ?_
  refine tw_iconst C (nI 2) dL_law_116 (by decide) ?_
  refine tn_iadd C dL_law_117 ?_
  refine tl_sld C hX hbl hbA (by omega) (by omega) dL_law_118 ?_
  refine tl_callT C 2 rfl (As := [.int (xs (i + 1)), .int (xs (i + 2))]) (t_put x (xs (i + 1)) (xs (i + 2)) hJ.1) rfl q68 q69 q70 q71 (by decide +kernel) ⟨Nat.le_of_ble_eq_true rfl, Nat.le_of_ble_eq_true rfl⟩ ⟨Nat.le_of_ble_eq_true rfl, Nat.le_of_ble_eq_true rfl⟩ rfl (Nat.le_of_ble_eq_true rfl) dL_law_119 (fun r1 u hu => ?_)
  refine tw_aload_n C dL_law_122 rfl ?_
  refine tw_aload_n C dL_law_123 rfl ?_
  refine tw_iload_n C dL_law_124 rfl ?_
  refine tw_iconst C (nI 1) dL_law_125 (by decide) ?_
  refine tn_iadd C dL_law_126 ?_
  refine tl_sld C hX hbl hbA (by omega) (by omega) dL_law_127 ?_
  refine tw_aload_n C dL_law_128 rfl ?_
  refine tw_iload_n C dL_law_129 rfl ?_
  refine tw_iconst C (nI 2) dL_law_130 (by decide) ?_
  refine tn_iadd C dL_law_131 ?_
  refine tl_sld C hX hbl hbA (by omega) (by omega) dL_law_132 ?_
  refine tl_callM C 2 rfl (As := [.int (xs (i + 1)), .int (xs (i + 2))]) (u_put y (xs (i + 1)) (xs (i + 2))) rfl q221 q222 q223 q224 (by decide +kernel) ⟨Nat.le_of_ble_eq_true rfl, Nat.le_of_ble_eq_true rfl⟩ ⟨Nat.le_of_ble_eq_true rfl, Nat.le_of_ble_eq_true rfl⟩ rfl (Nat.le_of_ble_eq_true rfl) dL_law_133 (fun r2 w hw => ?_)
  obtain ⟨he, hJ2⟩ := L_put hJ hu hw
  exact tw_icmp_eq C 533 dL_law_136 (by decide) (fun _ => kk u w (hJ2.mono (by omega))) (fun h => absurd he h)
theorem k_remove (h : LC p s m meth c D dB dI b L xs) (hJ : JJ i x y) (hi : i + 4 ≤ L) (kk : ∀ u w, JJ (i + 1) u w → LW p l e s m below meth c D ad am dB dI b u w i 533 []) : LW p l e s m below meth c D ad am dB dI b x y i 141 [] := by
  obtain ⟨C, hX, hbl, hL⟩ := h
  have hB : i ≤ 300 := by omega
  have hbA : ¬ (fun q : Nat => s.heap.size ≤ q) b := Nat.not_le.mpr hbl
  unfold LW
  refine tw_aload_n C dL_law_141 rfl ?_
  refine tw_aload_n C dL_law_142 rfl ?_
  refine tw_iload_n C dL_law_143 rfl ?_
  refine tw_iconst C (nI 1) dL_law_144 (by decide) ?_
  refine tn_iadd C dL_law_145 ?_
  refine tl_sld C hX hbl hbA (by omega) (by omega) dL_law_146 ?_
  refine tl_callT C 1 rfl (As := [.int (xs (i + 1))]) (t_remove x (xs (i + 1)) hJ.1) rfl q112 q113 q114 q115 (by decide +kernel) ⟨Nat.le_of_ble_eq_true rfl, Nat.le_of_ble_eq_true rfl⟩ ⟨Nat.le_of_ble_eq_true rfl, Nat.le_of_ble_eq_true rfl⟩ rfl (Nat.le_of_ble_eq_true rfl) dL_law_147 (fun r1 u hu => ?_)
  refine tw_aload_n C dL_law_150 rfl ?_
  refine tw_aload_n C dL_law_151 rfl ?_
  refine tw_iload_n C dL_law_152 rfl ?_
  refine tw_iconst C (nI 1) dL_law_153 (by decide) ?_
  refine tn_iadd C dL_law_154 ?_
  refine tl_sld C hX hbl hbA (by omega) (by omega) dL_law_155 ?_
  refine tl_callM C 1 rfl (As := [.int (xs (i + 1))]) (u_remove y (xs (i + 1))) rfl q225 q226 q227 q228 (by decide +kernel) ⟨Nat.le_of_ble_eq_true rfl, Nat.le_of_ble_eq_true rfl⟩ ⟨Nat.le_of_ble_eq_true rfl, Nat.le_of_ble_eq_true rfl⟩ rfl (Nat.le_of_ble_eq_true rfl) dL_law_156 (fun r2 w hw => ?_)
  obtain ⟨he, hJ2⟩ := L_remove hJ hu hw
  exact tw_icmp_eq C 533 dL_law_159 (by decide) (fun _ => kk u w (hJ2.mono (by omega))) (fun h => absurd he h)
theorem k_save (h : LC p s m meth c D dB dI b L xs) (hJ : JJ i x y) (hi : i + 4 ≤ L) (kk : ∀ u w, JJ (i + 1) u w → LW p l e s m below meth c D ad am dB dI b u w i 533 []) : LW p l e s m below meth c D ad am dB dI b x y i 164 [] := by
  obtain ⟨C, hX, hbl, hL⟩ := h
  have hB : i ≤ 300 := by omega
  have hbA : ¬ (fun q : Nat => s.heap.size ≤ q) b := Nat.not_le.mpr hbl
  unfold LW
  refine tw_aload_n C dL_law_164 rfl ?_
  refine tl_callT C 0 rfl (As := []) (t_save x hJ.1 (J_lt hJ hB).2.2.1) rfl q128 q129 q130 q131 (by decide +kernel) ⟨Nat.le_of_ble_eq_true rfl, Nat.le_of_ble_eq_true rfl⟩ ⟨Nat.le_of_ble_eq_true rfl, Nat.le_of_ble_eq_true rfl⟩ rfl (Nat.le_of_ble_eq_true rfl) dL_law_165 (fun r1 u hu => ?_)
  refine tw_aload_n C dL_law_168 rfl ?_
  refine tl_callM C 0 rfl (As := []) (u_save y (J_lt hJ hB).2.2.2 (J_lt hJ hB).2.1) rfl q233 q234 q235 q236 (by decide +kernel) ⟨Nat.le_of_ble_eq_true rfl, Nat.le_of_ble_eq_true rfl⟩ ⟨Nat.le_of_ble_eq_true rfl, Nat.le_of_ble_eq_true rfl⟩ rfl (Nat.le_of_ble_eq_true rfl) dL_law_169 (fun r2 w hw => ?_)
  obtain ⟨he, hJ2⟩ := L_save hJ hu hw
  exact tw_icmp_eq C 533 dL_law_172 (by decide) (fun _ => kk u w hJ2) (fun h => absurd he h)
theorem k_goBack (h : LC p s m meth c D dB dI b L xs) (hJ : JJ i x y) (hi : i + 4 ≤ L) (kk : ∀ u w, JJ (i + 1) u w → LW p l e s m below meth c D ad am dB dI b u w i 533 []) : LW p l e s m below meth c D ad am dB dI b x y i 177 [] := by
  obtain ⟨C, hX, hbl, hL⟩ := h
  have hB : i ≤ 300 := by omega
  have hbA : ¬ (fun q : Nat => s.heap.size ≤ q) b := Nat.not_le.mpr hbl
  unfold LW
  refine tw_aload_n C dL_law_177 rfl ?_
  refine tw_aload_n C dL_law_178 rfl ?_
  refine tw_iload_n C dL_law_179 rfl ?_
  refine tw_iconst C (nI 1) dL_law_180 (by decide) ?_
  refine tn_iadd C dL_law_181 ?_
  refine tl_sld C hX hbl hbA (by omega) (by omega) dL_law_182 ?_
  refine tl_callT C 1 rfl (As := [.int (xs (i + 1))]) (t_goBack x (xs (i + 1)) hJ.1 (J_lt hJ hB).2.2.1) rfl q132 q133 q134 q135 (by decide +kernel) ⟨Nat.le_of_ble_eq_true rfl, Nat.le_of_ble_eq_true rfl⟩ ⟨Nat.le_of_ble_eq_true rfl, Nat.le_of_ble_eq_true rfl⟩ rfl (Nat.le_of_ble_eq_true rfl) dL_law_183 (fun r1 u hu => ?_)
  refine tw_aload_n C dL_law_186 rfl ?_
  refine tw_aload_n C dL_law_187 rfl ?_
  refine tw_iload_n C dL_law_188 rfl ?_
  refine tw_iconst C (nI 1) dL_law_189 (by decide) ?_
  refine tn_iadd C dL_law_190 ?_
  refine tl_sld C hX hbl hbA (by omega) (by omega) dL_law_191 ?_
  refine tl_callM C 1 rfl (As := [.int (xs (i + 1))]) (u_goBack y (xs (i + 1)) (J_lt hJ hB).1) rfl q241 q242 q243 q244 (by decide +kernel) ⟨Nat.le_of_ble_eq_true rfl, Nat.le_of_ble_eq_true rfl⟩ ⟨Nat.le_of_ble_eq_true rfl, Nat.le_of_ble_eq_true rfl⟩ rfl (Nat.le_of_ble_eq_true rfl) dL_law_192 (fun r2 w hw => ?_)
  obtain ⟨he, hJ2⟩ := L_goBack hJ hB hu hw
  exact tw_icmp_eq C 533 dL_law_195 (by decide) (fun _ => kk u w (hJ2.mono (by omega))) (fun h => absurd he h)
theorem k_kept (h : LC p s m meth c D dB dI b L xs) (hJ : JJ i x y) (hi : i + 4 ≤ L) (kk : ∀ u w, JJ (i + 1) u w → LW p l e s m below meth c D ad am dB dI b u w i 533 []) : LW p l e s m below meth c D ad am dB dI b x y i 200 [] := by
  obtain ⟨C, hX, hbl, hL⟩ := h
  have hB : i ≤ 300 := by omega
  have hbA : ¬ (fun q : Nat => s.heap.size ≤ q) b := Nat.not_le.mpr hbl
  unfold LW
  refine tw_aload_n C dL_law_200 rfl ?_
  refine tl_callT C 0 rfl (As := []) (t_kept x) rfl q140 q141 q142 q143 (by decide +kernel) ⟨Nat.le_of_ble_eq_true rfl, Nat.le_of_ble_eq_true rfl⟩ ⟨Nat.le_of_ble_eq_true rfl, Nat.le_of_ble_eq_true rfl⟩ rfl (Nat.le_of_ble_eq_true rfl) dL_law_201 (fun r1 u hu => ?_)
  refine tw_aload_n C dL_law_204 rfl ?_
  refine tl_callM C 0 rfl (As := []) (u_kept y) rfl q249 q250 q251 q252 (by decide +kernel) ⟨Nat.le_of_ble_eq_true rfl, Nat.le_of_ble_eq_true rfl⟩ ⟨Nat.le_of_ble_eq_true rfl, Nat.le_of_ble_eq_true rfl⟩ rfl (Nat.le_of_ble_eq_true rfl) dL_law_205 (fun r2 w hw => ?_)
  obtain ⟨rfl, eu⟩ := hu
  subst eu
  obtain ⟨rfl, ew⟩ := hw
  subst ew
  exact tw_icmp_eq C 533 dL_law_208 (by decide) (fun _ => kk _ _ (hJ.mono (by omega))) (fun h => absurd (L_kept hJ) h)
theorem k_has (h : LC p s m meth c D dB dI b L xs) (hJ : JJ i x y) (hi : i + 4 ≤ L) (kk : ∀ u w, JJ (i + 1) u w → LW p l e s m below meth c D ad am dB dI b u w i 533 []) : LW p l e s m below meth c D ad am dB dI b x y i 213 [] := by
  obtain ⟨C, hX, hbl, hL⟩ := h
  have hB : i ≤ 300 := by omega
  have hbA : ¬ (fun q : Nat => s.heap.size ≤ q) b := Nat.not_le.mpr hbl
  unfold LW
  refine tw_aload_n C dL_law_213 rfl ?_
  refine tw_aload_n C dL_law_214 rfl ?_
  refine tw_iload_n C dL_law_215 rfl ?_
  refine tw_iconst C (nI 1) dL_law_216 (by decide) ?_
  refine tn_iadd C dL_law_217 ?_
  refine tl_sld C hX hbl hbA (by omega) (by omega) dL_law_218 ?_
  refine tw_aload_n C dL_law_219 rfl ?_
  refine tw_iload_n C dL_law_220 rfl ?_
  refine tw_iconst C (nI 2) dL_law_221 (by decide) ?_
  refine tn_iadd C dL_law_222 ?_
  refine tl_sld C hX hbl hbA (by omega) (by omega) dL_law_223 ?_
  refine tl_callT C 2 rfl (As := [.int (xs (i + 1)), .int (xs (i + 2))]) (t_has x (xs (i + 1)) (xs (i + 2)) hJ.1.1.1) rfl q144 q145 q146 q147 (by decide +kernel) ⟨Nat.le_of_ble_eq_true rfl, Nat.le_of_ble_eq_true rfl⟩ ⟨Nat.le_of_ble_eq_true rfl, Nat.le_of_ble_eq_true rfl⟩ rfl (Nat.le_of_ble_eq_true rfl) dL_law_224 (fun r1 u hu => ?_)
  refine tw_aload_n C dL_law_227 rfl ?_
  refine tw_aload_n C dL_law_228 rfl ?_
  refine tw_iload_n C dL_law_229 rfl ?_
  refine tw_iconst C (nI 1) dL_law_230 (by decide) ?_
  refine tn_iadd C dL_law_231 ?_
  refine tl_sld C hX hbl hbA (by omega) (by omega) dL_law_232 ?_
  refine tw_aload_n C dL_law_233 rfl ?_
  refine tw_iload_n C dL_law_234 rfl ?_
  refine tw_iconst C (nI 2) dL_law_235 (by decide) ?_
  refine tn_iadd C dL_law_236 ?_
  refine tl_sld C hX hbl hbA (by omega) (by omega) dL_law_237 ?_
  refine tl_callM C 2 rfl (As := [.int (xs (i + 1)), .int (xs (i + 2))]) (u_has y (xs (i + 1)) (xs (i + 2)) (J_lt hJ hB).1) rfl q253 q254 q255 q256 (by decide +kernel) ⟨Nat.le_of_ble_eq_true rfl, Nat.le_of_ble_eq_true rfl⟩ ⟨Nat.le_of_ble_eq_true rfl, Nat.le_of_ble_eq_true rfl⟩ rfl (Nat.le_of_ble_eq_true rfl) dL_law_238 (fun r2 w hw => ?_)
  obtain ⟨rfl, eu⟩ := hu
  subst eu
  obtain ⟨rfl, ew⟩ := hw
  subst ew
  exact tw_icmp_eq C 533 dL_law_241 (by decide) (fun _ => kk _ _ (hJ.mono (by omega))) (fun h => absurd (L_has hJ hB (xs (i + 1)) (xs (i + 2))) h)
theorem k_get (h : LC p s m meth c D dB dI b L xs) (hJ : JJ i x y) (hi : i + 4 ≤ L) (kk : ∀ u w, JJ (i + 1) u w → LW p l e s m below meth c D ad am dB dI b u w i 533 []) : LW p l e s m below meth c D ad am dB dI b x y i 246 [] := by
  obtain ⟨C, hX, hbl, hL⟩ := h
  have hB : i ≤ 300 := by omega
  have hbA : ¬ (fun q : Nat => s.heap.size ≤ q) b := Nat.not_le.mpr hbl
  unfold LW
  refine tw_aload_n C dL_law_246 rfl ?_
  refine tw_aload_n C dL_law_247 rfl ?_
  refine tw_iload_n C dL_law_248 rfl ?_
  refine tw_iconst C (nI 1) dL_law_249 (by decide) ?_
  refine tn_iadd C dL_law_250 ?_
  refine tl_sld C hX hbl hbA (by omega) (by omega) dL_law_251 ?_
  refine tw_aload_n C dL_law_252 rfl ?_
  refine tw_iload_n C dL_law_253 rfl ?_
  refine tw_iconst C (nI 2) dL_law_254 (by decide) ?_
  refine tn_iadd C dL_law_255 ?_
  refine tl_sld C hX hbl hbA (by omega) (by omega) dL_law_256 ?_
  refine tl_callT C 2 rfl (As := [.int (xs (i + 1)), .int (xs (i + 2))]) (t_get x (xs (i + 1)) (xs (i + 2)) hJ.1.1.1) rfl q152 q153 q154 q155 (by decide +kernel) ⟨Nat.le_of_ble_eq_true rfl, Nat.le_of_ble_eq_true rfl⟩ ⟨Nat.le_of_ble_eq_true rfl, Nat.le_of_ble_eq_true rfl⟩ rfl (Nat.le_of_ble_eq_true rfl) dL_law_257 (fun r1 u hu => ?_)
  refine tw_aload_n C dL_law_260 rfl ?_
  refine tw_aload_n C dL_law_261 rfl ?_
  refine tw_iload_n C dL_law_262 rfl ?_
  refine tw_iconst C (nI 1) dL_law_263 (by decide) ?_
  refine tn_iadd C dL_law_264 ?_
  refine tl_sld C hX hbl hbA (by omega) (by omega) dL_law_265 ?_
  refine tw_aload_n C dL_law_266 rfl ?_
  refine tw_iload_n C dL_law_267 rfl ?_
  refine tw_iconst C (nI 2) dL_law_268 (by decide) ?_
  refine tn_iadd C dL_law_269 ?_
  refine tl_sld C hX hbl hbA (by omega) (by omega) dL_law_270 ?_
  refine tl_callM C 2 rfl (As := [.int (xs (i + 1)), .int (xs (i + 2))]) (u_get y (xs (i + 1)) (xs (i + 2)) (J_lt hJ hB).1) rfl q257 q258 q259 q260 (by decide +kernel) ⟨Nat.le_of_ble_eq_true rfl, Nat.le_of_ble_eq_true rfl⟩ ⟨Nat.le_of_ble_eq_true rfl, Nat.le_of_ble_eq_true rfl⟩ rfl (Nat.le_of_ble_eq_true rfl) dL_law_271 (fun r2 w hw => ?_)
  obtain ⟨rfl, eu⟩ := hu
  subst eu
  obtain ⟨rfl, ew⟩ := hw
  subst ew
  exact tw_icmp_eq C 533 dL_law_274 (by decide) (fun _ => kk _ _ (hJ.mono (by omega))) (fun h => absurd (L_get hJ hB (xs (i + 1)) (xs (i + 2))) h)
theorem k_count (h : LC p s m meth c D dB dI b L xs) (hJ : JJ i x y) (hi : i + 4 ≤ L) (kk : ∀ u w, JJ (i + 1) u w → LW p l e s m below meth c D ad am dB dI b u w i 533 []) : LW p l e s m below meth c D ad am dB dI b x y i 279 [] := by
  obtain ⟨C, hX, hbl, hL⟩ := h
  have hB : i ≤ 300 := by omega
  have hbA : ¬ (fun q : Nat => s.heap.size ≤ q) b := Nat.not_le.mpr hbl
  unfold LW
  refine tw_aload_n C dL_law_279 rfl ?_
  refine tw_aload_n C dL_law_280 rfl ?_
  refine tw_iload_n C dL_law_281 rfl ?_
  refine tw_iconst C (nI 1) dL_law_282 (by decide) ?_
  refine tn_iadd C dL_law_283 ?_
  refine tl_sld C hX hbl hbA (by omega) (by omega) dL_law_284 ?_
  refine tl_callT C 1 rfl (As := [.int (xs (i + 1))]) (t_count x (xs (i + 1)) hJ.1.1.1) rfl q156 q157 q158 q159 (by decide +kernel) ⟨Nat.le_of_ble_eq_true rfl, Nat.le_of_ble_eq_true rfl⟩ ⟨Nat.le_of_ble_eq_true rfl, Nat.le_of_ble_eq_true rfl⟩ rfl (Nat.le_of_ble_eq_true rfl) dL_law_285 (fun r1 u hu => ?_)
  refine tw_aload_n C dL_law_288 rfl ?_
  refine tw_aload_n C dL_law_289 rfl ?_
  refine tw_iload_n C dL_law_290 rfl ?_
  refine tw_iconst C (nI 1) dL_law_291 (by decide) ?_
  refine tn_iadd C dL_law_292 ?_
  refine tl_sld C hX hbl hbA (by omega) (by omega) dL_law_293 ?_
  refine tl_callM C 1 rfl (As := [.int (xs (i + 1))]) (u_count y (xs (i + 1)) (J_lt hJ hB).1) rfl q261 q262 q263 q264 (by decide +kernel) ⟨Nat.le_of_ble_eq_true rfl, Nat.le_of_ble_eq_true rfl⟩ ⟨Nat.le_of_ble_eq_true rfl, Nat.le_of_ble_eq_true rfl⟩ rfl (Nat.le_of_ble_eq_true rfl) dL_law_294 (fun r2 w hw => ?_)
  obtain ⟨rfl, eu⟩ := hu
  subst eu
  obtain ⟨rfl, ew⟩ := hw
  subst ew
  exact tw_icmp_eq C 533 dL_law_297 (by decide) (fun _ => kk _ _ (hJ.mono (by omega))) (fun h => absurd (L_count hJ hB (xs (i + 1))) h)
theorem k_from (h : LC p s m meth c D dB dI b L xs) (hJ : JJ i x y) (hi : i + 4 ≤ L) (kk : ∀ u w, JJ (i + 1) u w → LW p l e s m below meth c D ad am dB dI b u w i 533 []) : LW p l e s m below meth c D ad am dB dI b x y i 302 [] := by
  obtain ⟨C, hX, hbl, hL⟩ := h
  have hB : i ≤ 300 := by omega
  have hbA : ¬ (fun q : Nat => s.heap.size ≤ q) b := Nat.not_le.mpr hbl
  unfold LW
  refine tw_aload_n C dL_law_302 rfl ?_
  refine tw_aload_n C dL_law_303 rfl ?_
  refine tw_iload_n C dL_law_304 rfl ?_
  refine tw_iconst C (nI 1) dL_law_305 (by decide) ?_
  refine tn_iadd C dL_law_306 ?_
  refine tl_sld C hX hbl hbA (by omega) (by omega) dL_law_307 ?_
  refine tw_aload_n C dL_law_308 rfl ?_
  refine tw_iload_n C dL_law_309 rfl ?_
  refine tw_iconst C (nI 2) dL_law_310 (by decide) ?_
  refine tn_iadd C dL_law_311 ?_
  refine tl_sld C hX hbl hbA (by omega) (by omega) dL_law_312 ?_
  refine tl_callT C 2 rfl (As := [.int (xs (i + 1)), .int (xs (i + 2))]) (t_from x (xs (i + 1)) (xs (i + 2)) hJ.1.1.1) rfl q160 q161 q162 q163 (by decide +kernel) ⟨Nat.le_of_ble_eq_true rfl, Nat.le_of_ble_eq_true rfl⟩ ⟨Nat.le_of_ble_eq_true rfl, Nat.le_of_ble_eq_true rfl⟩ rfl (Nat.le_of_ble_eq_true rfl) dL_law_313 (fun r1 u hu => ?_)
  refine tw_aload_n C dL_law_316 rfl ?_
  refine tw_aload_n C dL_law_317 rfl ?_
  refine tw_iload_n C dL_law_318 rfl ?_
  refine tw_iconst C (nI 1) dL_law_319 (by decide) ?_
  refine tn_iadd C dL_law_320 ?_
  refine tl_sld C hX hbl hbA (by omega) (by omega) dL_law_321 ?_
  refine tw_aload_n C dL_law_322 rfl ?_
  refine tw_iload_n C dL_law_323 rfl ?_
  refine tw_iconst C (nI 2) dL_law_324 (by decide) ?_
  refine tn_iadd C dL_law_325 ?_
  refine tl_sld C hX hbl hbA (by omega) (by omega) dL_law_326 ?_
  refine tl_callM C 2 rfl (As := [.int (xs (i + 1)), .int (xs (i + 2))]) (u_from y (xs (i + 1)) (xs (i + 2)) (J_lt hJ hB).1) rfl q269 q270 q271 q272 (by decide +kernel) ⟨Nat.le_of_ble_eq_true rfl, Nat.le_of_ble_eq_true rfl⟩ ⟨Nat.le_of_ble_eq_true rfl, Nat.le_of_ble_eq_true rfl⟩ rfl (Nat.le_of_ble_eq_true rfl) dL_law_327 (fun r2 w hw => ?_)
  obtain ⟨rfl, eu⟩ := hu
  subst eu
  obtain ⟨hw, ew⟩ := hw
  subst ew
  exact tw_icmp_eq C 533 dL_law_330 (by decide) (fun _ => kk _ _ (hJ.mono (by omega))) (fun h => absurd (L_from hJ hB (xs (i + 1)) (xs (i + 2)) r2 hw) h)
theorem k_upTo (h : LC p s m meth c D dB dI b L xs) (hJ : JJ i x y) (hi : i + 4 ≤ L) (kk : ∀ u w, JJ (i + 1) u w → LW p l e s m below meth c D ad am dB dI b u w i 533 []) : LW p l e s m below meth c D ad am dB dI b x y i 335 [] := by
  obtain ⟨C, hX, hbl, hL⟩ := h
  have hB : i ≤ 300 := by omega
  have hbA : ¬ (fun q : Nat => s.heap.size ≤ q) b := Nat.not_le.mpr hbl
  unfold LW
  refine tw_aload_n C dL_law_335 rfl ?_
  refine tw_aload_n C dL_law_336 rfl ?_
  refine tw_iload_n C dL_law_337 rfl ?_
  refine tw_iconst C (nI 1) dL_law_338 (by decide) ?_
  refine tn_iadd C dL_law_339 ?_
  refine tl_sld C hX hbl hbA (by omega) (by omega) dL_law_340 ?_
  refine tw_aload_n C dL_law_341 rfl ?_
  refine tw_iload_n C dL_law_342 rfl ?_
  refine tw_iconst C (nI 2) dL_law_343 (by decide) ?_
  refine tn_iadd C dL_law_344 ?_
  refine tl_sld C hX hbl hbA (by omega) (by omega) dL_law_345 ?_
  refine tl_callT C 2 rfl (As := [.int (xs (i + 1)), .int (xs (i + 2))]) (t_upTo x (xs (i + 1)) (xs (i + 2)) hJ.1.1.1) rfl q172 q173 q174 q175 (by decide +kernel) ⟨Nat.le_of_ble_eq_true rfl, Nat.le_of_ble_eq_true rfl⟩ ⟨Nat.le_of_ble_eq_true rfl, Nat.le_of_ble_eq_true rfl⟩ rfl (Nat.le_of_ble_eq_true rfl) dL_law_346 (fun r1 u hu => ?_)
  refine tw_aload_n C dL_law_349 rfl ?_
  refine tw_aload_n C dL_law_350 rfl ?_
  refine tw_iload_n C dL_law_351 rfl ?_
  refine tw_iconst C (nI 1) dL_law_352 (by decide) ?_
  refine tn_iadd C dL_law_353 ?_
  refine tl_sld C hX hbl hbA (by omega) (by omega) dL_law_354 ?_
  refine tw_aload_n C dL_law_355 rfl ?_
  refine tw_iload_n C dL_law_356 rfl ?_
  refine tw_iconst C (nI 2) dL_law_357 (by decide) ?_
  refine tn_iadd C dL_law_358 ?_
  refine tl_sld C hX hbl hbA (by omega) (by omega) dL_law_359 ?_
  refine tl_callM C 2 rfl (As := [.int (xs (i + 1)), .int (xs (i + 2))]) (u_upTo y (xs (i + 1)) (xs (i + 2)) (J_lt hJ hB).1) rfl q273 q274 q275 q276 (by decide +kernel) ⟨Nat.le_of_ble_eq_true rfl, Nat.le_of_ble_eq_true rfl⟩ ⟨Nat.le_of_ble_eq_true rfl, Nat.le_of_ble_eq_true rfl⟩ rfl (Nat.le_of_ble_eq_true rfl) dL_law_360 (fun r2 w hw => ?_)
  obtain ⟨rfl, eu⟩ := hu
  subst eu
  obtain ⟨hw, ew⟩ := hw
  subst ew
  exact tw_icmp_eq C 533 dL_law_363 (by decide) (fun _ => kk _ _ (hJ.mono (by omega))) (fun h => absurd (L_upTo hJ hB (xs (i + 1)) (xs (i + 2)) r2 hw) h)
theorem k_keyAt (h : LC p s m meth c D dB dI b L xs) (hJ : JJ i x y) (hi : i + 4 ≤ L) (kk : ∀ u w, JJ (i + 1) u w → LW p l e s m below meth c D ad am dB dI b u w i 533 []) : LW p l e s m below meth c D ad am dB dI b x y i 368 [] := by
  obtain ⟨C, hX, hbl, hL⟩ := h
  have hB : i ≤ 300 := by omega
  have hbA : ¬ (fun q : Nat => s.heap.size ≤ q) b := Nat.not_le.mpr hbl
  unfold LW
  refine tw_aload_n C dL_law_368 rfl ?_
  refine tw_aload_n C dL_law_369 rfl ?_
  refine tw_iload_n C dL_law_370 rfl ?_
  refine tw_iconst C (nI 1) dL_law_371 (by decide) ?_
  refine tn_iadd C dL_law_372 ?_
  refine tl_sld C hX hbl hbA (by omega) (by omega) dL_law_373 ?_
  refine tw_aload_n C dL_law_374 rfl ?_
  refine tw_iload_n C dL_law_375 rfl ?_
  refine tw_iconst C (nI 2) dL_law_376 (by decide) ?_
  refine tn_iadd C dL_law_377 ?_
  refine tl_sld C hX hbl hbA (by omega) (by omega) dL_law_378 ?_
  refine tl_callT C 2 rfl (As := [.int (xs (i + 1)), .int (xs (i + 2))]) (t_keyAt x (xs (i + 1)) (xs (i + 2)) hJ.1.1.1) rfl q176 q169 q170 q171 (by decide +kernel) ⟨Nat.le_of_ble_eq_true rfl, Nat.le_of_ble_eq_true rfl⟩ ⟨Nat.le_of_ble_eq_true rfl, Nat.le_of_ble_eq_true rfl⟩ rfl (Nat.le_of_ble_eq_true rfl) dL_law_379 (fun r1 u hu => ?_)
  refine tw_aload_n C dL_law_382 rfl ?_
  refine tw_aload_n C dL_law_383 rfl ?_
  refine tw_iload_n C dL_law_384 rfl ?_
  refine tw_iconst C (nI 1) dL_law_385 (by decide) ?_
  refine tn_iadd C dL_law_386 ?_
  refine tl_sld C hX hbl hbA (by omega) (by omega) dL_law_387 ?_
  refine tw_aload_n C dL_law_388 rfl ?_
  refine tw_iload_n C dL_law_389 rfl ?_
  refine tw_iconst C (nI 2) dL_law_390 (by decide) ?_
  refine tn_iadd C dL_law_391 ?_
  refine tl_sld C hX hbl hbA (by omega) (by omega) dL_law_392 ?_
  refine tl_callM C 2 rfl (As := [.int (xs (i + 1)), .int (xs (i + 2))]) (u_keyAt y (xs (i + 1)) (xs (i + 2)) (J_lt hJ hB).1) rfl q277 q278 q279 q280 (by decide +kernel) ⟨Nat.le_of_ble_eq_true rfl, Nat.le_of_ble_eq_true rfl⟩ ⟨Nat.le_of_ble_eq_true rfl, Nat.le_of_ble_eq_true rfl⟩ rfl (Nat.le_of_ble_eq_true rfl) dL_law_393 (fun r2 w hw => ?_)
  obtain ⟨rfl, eu⟩ := hu
  subst eu
  obtain ⟨hw, ew⟩ := hw
  subst ew
  exact tw_icmp_eq C 533 dL_law_396 (by decide) (fun _ => kk _ _ (hJ.mono (by omega))) (fun h => absurd (L_keyAt hJ hB (xs (i + 1)) (xs (i + 2)) r2 hw) h)
theorem k_rank (h : LC p s m meth c D dB dI b L xs) (hJ : JJ i x y) (hi : i + 4 ≤ L) (kk : ∀ u w, JJ (i + 1) u w → LW p l e s m below meth c D ad am dB dI b u w i 533 []) : LW p l e s m below meth c D ad am dB dI b x y i 401 [] := by
  obtain ⟨C, hX, hbl, hL⟩ := h
  have hB : i ≤ 300 := by omega
  have hbA : ¬ (fun q : Nat => s.heap.size ≤ q) b := Nat.not_le.mpr hbl
  unfold LW
  refine tw_aload_n C dL_law_401 rfl ?_
  refine tw_aload_n C dL_law_402 rfl ?_
  refine tw_iload_n C dL_law_403 rfl ?_
  refine tw_iconst C (nI 1) dL_law_404 (by decide) ?_
  refine tn_iadd C dL_law_405 ?_
  refine tl_sld C hX hbl hbA (by omega) (by omega) dL_law_406 ?_
  refine tw_aload_n C dL_law_407 rfl ?_
  refine tw_iload_n C dL_law_408 rfl ?_
  refine tw_iconst C (nI 2) dL_law_409 (by decide) ?_
  refine tn_iadd C dL_law_410 ?_
  refine tl_sld C hX hbl hbA (by omega) (by omega) dL_law_411 ?_
  refine tl_callT C 2 rfl (As := [.int (xs (i + 1)), .int (xs (i + 2))]) (t_rank x (xs (i + 1)) (xs (i + 2)) hJ.1.1.1) rfl q177 q165 q166 q167 (by decide +kernel) ⟨Nat.le_of_ble_eq_true rfl, Nat.le_of_ble_eq_true rfl⟩ ⟨Nat.le_of_ble_eq_true rfl, Nat.le_of_ble_eq_true rfl⟩ rfl (Nat.le_of_ble_eq_true rfl) dL_law_412 (fun r1 u hu => ?_)
  refine tw_aload_n C dL_law_415 rfl ?_
  refine tw_aload_n C dL_law_416 rfl ?_
  refine tw_iload_n C dL_law_417 rfl ?_
  refine tw_iconst C (nI 1) dL_law_418 (by decide) ?_
  refine tn_iadd C dL_law_419 ?_
  refine tl_sld C hX hbl hbA (by omega) (by omega) dL_law_420 ?_
  refine tw_aload_n C dL_law_421 rfl ?_
  refine tw_iload_n C dL_law_422 rfl ?_
  refine tw_iconst C (nI 2) dL_law_423 (by decide) ?_
  refine tn_iadd C dL_law_424 ?_
  refine tl_sld C hX hbl hbA (by omega) (by omega) dL_law_425 ?_
  refine tl_callM C 2 rfl (As := [.int (xs (i + 1)), .int (xs (i + 2))]) (u_rank y (xs (i + 1)) (xs (i + 2)) (J_lt hJ hB).1) rfl q281 q266 q267 q268 (by decide +kernel) ⟨Nat.le_of_ble_eq_true rfl, Nat.le_of_ble_eq_true rfl⟩ ⟨Nat.le_of_ble_eq_true rfl, Nat.le_of_ble_eq_true rfl⟩ rfl (Nat.le_of_ble_eq_true rfl) dL_law_426 (fun r2 w hw => ?_)
  obtain ⟨rfl, eu⟩ := hu
  subst eu
  obtain ⟨rfl, ew⟩ := hw
  subst ew
  exact tw_icmp_eq C 533 dL_law_429 (by decide) (fun _ => kk _ _ (hJ.mono (by omega))) (fun h => absurd (L_rank hJ hB (xs (i + 1)) (xs (i + 2))) h)
theorem k_sum (h : LC p s m meth c D dB dI b L xs) (hJ : JJ i x y) (hi : i + 4 ≤ L) (kk : ∀ u w, JJ (i + 1) u w → LW p l e s m below meth c D ad am dB dI b u w i 533 []) : LW p l e s m below meth c D ad am dB dI b x y i 434 [] := by
  obtain ⟨C, hX, hbl, hL⟩ := h
  have hB : i ≤ 300 := by omega
  have hbA : ¬ (fun q : Nat => s.heap.size ≤ q) b := Nat.not_le.mpr hbl
  unfold LW
  refine tw_aload_n C dL_law_434 rfl ?_
  refine tw_aload_n C dL_law_435 rfl ?_
  refine tw_iload_n C dL_law_436 rfl ?_
  refine tw_iconst C (nI 1) dL_law_437 (by decide) ?_
  refine tn_iadd C dL_law_438 ?_
  refine tl_sld C hX hbl hbA (by omega) (by omega) dL_law_439 ?_
  refine tw_aload_n C dL_law_440 rfl ?_
  refine tw_iload_n C dL_law_441 rfl ?_
  refine tw_iconst C (nI 2) dL_law_442 (by decide) ?_
  refine tn_iadd C dL_law_443 ?_
  refine tl_sld C hX hbl hbA (by omega) (by omega) dL_law_444 ?_
  refine tw_aload_n C dL_law_445 rfl ?_
  refine tw_iload_n C dL_law_446 rfl ?_
  refine tw_iconst C (nI 3) dL_law_447 (by decide) ?_
  refine tn_iadd C dL_law_448 ?_
  refine tl_sld C hX hbl hbA (by omega) (by omega) dL_law_449 ?_
  refine tl_callT C 3 rfl (As := [.int (xs (i + 1)), .int (xs (i + 2)), .int (xs (i + 3))]) (t_sum x (xs (i + 1)) (xs (i + 2)) (xs (i + 3)) hJ.1.1.1) rfl q178 q179 q180 q181 (by decide +kernel) ⟨Nat.le_of_ble_eq_true rfl, Nat.le_of_ble_eq_true rfl⟩ ⟨Nat.le_of_ble_eq_true rfl, Nat.le_of_ble_eq_true rfl⟩ rfl (Nat.le_of_ble_eq_true rfl) dL_law_450 (fun r1 u hu => ?_)
  refine tw_aload_n C dL_law_453 rfl ?_
  refine tw_aload_n C dL_law_454 rfl ?_
  refine tw_iload_n C dL_law_455 rfl ?_
  refine tw_iconst C (nI 1) dL_law_456 (by decide) ?_
  refine tn_iadd C dL_law_457 ?_
  refine tl_sld C hX hbl hbA (by omega) (by omega) dL_law_458 ?_
  refine tw_aload_n C dL_law_459 rfl ?_
  refine tw_iload_n C dL_law_460 rfl ?_
  refine tw_iconst C (nI 2) dL_law_461 (by decide) ?_
  refine tn_iadd C dL_law_462 ?_
  refine tl_sld C hX hbl hbA (by omega) (by omega) dL_law_463 ?_
  refine tw_aload_n C dL_law_464 rfl ?_
  refine tw_iload_n C dL_law_465 rfl ?_
  refine tw_iconst C (nI 3) dL_law_466 (by decide) ?_
  refine tn_iadd C dL_law_467 ?_
  refine tl_sld C hX hbl hbA (by omega) (by omega) dL_law_468 ?_
  refine tl_callM C 3 rfl (As := [.int (xs (i + 1)), .int (xs (i + 2)), .int (xs (i + 3))]) (u_sum y (xs (i + 1)) (xs (i + 2)) (xs (i + 3)) (J_lt hJ hB).1) rfl q282 q283 q284 q285 (by decide +kernel) ⟨Nat.le_of_ble_eq_true rfl, Nat.le_of_ble_eq_true rfl⟩ ⟨Nat.le_of_ble_eq_true rfl, Nat.le_of_ble_eq_true rfl⟩ rfl (Nat.le_of_ble_eq_true rfl) dL_law_469 (fun r2 w hw => ?_)
  obtain ⟨rfl, eu⟩ := hu
  subst eu
  obtain ⟨rfl, ew⟩ := hw
  subst ew
  exact tw_icmp_eq C 533 dL_law_472 (by decide) (fun _ => kk _ _ (hJ.mono (by omega))) (fun h => absurd (L_sum hJ hB (xs (i + 1)) (xs (i + 2)) (xs (i + 3))) h)
theorem k_difference (h : LC p s m meth c D dB dI b L xs) (hJ : JJ i x y) (hi : i + 4 ≤ L) (kk : ∀ u w, JJ (i + 1) u w → LW p l e s m below meth c D ad am dB dI b u w i 533 []) : LW p l e s m below meth c D ad am dB dI b x y i 477 [] := by
  obtain ⟨C, hX, hbl, hL⟩ := h
  have hB : i ≤ 300 := by omega
  have hbA : ¬ (fun q : Nat => s.heap.size ≤ q) b := Nat.not_le.mpr hbl
  unfold LW
  refine tw_aload_n C dL_law_477 rfl ?_
  refine tw_aload_n C dL_law_478 rfl ?_
  refine tw_iload_n C dL_law_479 rfl ?_
  refine tw_iconst C (nI 1) dL_law_480 (by decide) ?_
  refine tn_iadd C dL_law_481 ?_
  refine tl_sld C hX hbl hbA (by omega) (by omega) dL_law_482 ?_
  refine tw_aload_n C dL_law_483 rfl ?_
  refine tw_iload_n C dL_law_484 rfl ?_
  refine tw_iconst C (nI 2) dL_law_485 (by decide) ?_
  refine tn_iadd C dL_law_486 ?_
  refine tl_sld C hX hbl hbA (by omega) (by omega) dL_law_487 ?_
  refine tl_callT C 2 rfl (As := [.int (xs (i + 1)), .int (xs (i + 2))]) (t_difference x (xs (i + 1)) (xs (i + 2)) hJ.1.1.1 (L_shared hJ hB)) rfl q182 q183 q184 q185 (by decide +kernel) ⟨Nat.le_of_ble_eq_true rfl, Nat.le_of_ble_eq_true rfl⟩ ⟨Nat.le_of_ble_eq_true rfl, Nat.le_of_ble_eq_true rfl⟩ rfl (Nat.le_of_ble_eq_true rfl) dL_law_488 (fun r1 u hu => ?_)
  refine tw_aload_n C dL_law_491 rfl ?_
  refine tw_aload_n C dL_law_492 rfl ?_
  refine tw_iload_n C dL_law_493 rfl ?_
  refine tw_iconst C (nI 1) dL_law_494 (by decide) ?_
  refine tn_iadd C dL_law_495 ?_
  refine tl_sld C hX hbl hbA (by omega) (by omega) dL_law_496 ?_
  refine tw_aload_n C dL_law_497 rfl ?_
  refine tw_iload_n C dL_law_498 rfl ?_
  refine tw_iconst C (nI 2) dL_law_499 (by decide) ?_
  refine tn_iadd C dL_law_500 ?_
  refine tl_sld C hX hbl hbA (by omega) (by omega) dL_law_501 ?_
  refine tl_callM C 2 rfl (As := [.int (xs (i + 1)), .int (xs (i + 2))]) (u_difference y (xs (i + 1)) (xs (i + 2)) (J_lt hJ hB).1) rfl q286 q287 q288 q289 (by decide +kernel) ⟨Nat.le_of_ble_eq_true rfl, Nat.le_of_ble_eq_true rfl⟩ ⟨Nat.le_of_ble_eq_true rfl, Nat.le_of_ble_eq_true rfl⟩ rfl (Nat.le_of_ble_eq_true rfl) dL_law_502 (fun r2 w hw => ?_)
  obtain ⟨rfl, eu⟩ := hu
  subst eu
  obtain ⟨rfl, ew⟩ := hw
  subst ew
  exact tw_icmp_eq C 533 dL_law_505 (by decide) (fun _ => kk _ _ (hJ.mono (by omega))) (fun h => absurd (L_diff hJ hB (xs (i + 1)) (xs (i + 2))) h)
theorem k_keys (h : LC p s m meth c D dB dI b L xs) (hJ : JJ i x y) (hi : i + 4 ≤ L) (kk : ∀ u w, JJ (i + 1) u w → LW p l e s m below meth c D ad am dB dI b u w i 533 []) : LW p l e s m below meth c D ad am dB dI b x y i 510 [] := by
  obtain ⟨C, hX, hbl, hL⟩ := h
  have hB : i ≤ 300 := by omega
  have hbA : ¬ (fun q : Nat => s.heap.size ≤ q) b := Nat.not_le.mpr hbl
  unfold LW
  refine tw_aload_n C dL_law_510 rfl ?_
  refine tw_aload_n C dL_law_511 rfl ?_
  refine tw_iload_n C dL_law_512 rfl ?_
  refine tw_iconst C (nI 1) dL_law_513 (by decide) ?_
  refine tn_iadd C dL_law_514 ?_
  refine tl_sld C hX hbl hbA (by omega) (by omega) dL_law_515 ?_
  refine tl_callT C 1 rfl (As := [.int (xs (i + 1))]) (t_keys x (xs (i + 1)) hJ.1.1.1) rfl q198 q199 q200 q201 (by decide +kernel) ⟨Nat.le_of_ble_eq_true rfl, Nat.le_of_ble_eq_true rfl⟩ ⟨Nat.le_of_ble_eq_true rfl, Nat.le_of_ble_eq_true rfl⟩ rfl (Nat.le_of_ble_eq_true rfl) dL_law_516 (fun r1 u hu => ?_)
  refine tw_aload_n C dL_law_519 rfl ?_
  refine tw_aload_n C dL_law_520 rfl ?_
  refine tw_iload_n C dL_law_521 rfl ?_
  refine tw_iconst C (nI 1) dL_law_522 (by decide) ?_
  refine tn_iadd C dL_law_523 ?_
  refine tl_sld C hX hbl hbA (by omega) (by omega) dL_law_524 ?_
  refine tl_callM C 1 rfl (As := [.int (xs (i + 1))]) (u_keys y (xs (i + 1)) (J_lt hJ hB).1) rfl q290 q291 q292 q293 (by decide +kernel) ⟨Nat.le_of_ble_eq_true rfl, Nat.le_of_ble_eq_true rfl⟩ ⟨Nat.le_of_ble_eq_true rfl, Nat.le_of_ble_eq_true rfl⟩ rfl (Nat.le_of_ble_eq_true rfl) dL_law_525 (fun r2 w hw => ?_)
  obtain ⟨rfl, eu⟩ := hu
  subst eu
  obtain ⟨rfl, ew⟩ := hw
  subst ew
  exact tw_icmp_eq C 533 dL_law_528 (by decide) (fun _ => kk _ _ (hJ.mono (by omega))) (fun h => absurd (L_keys hJ hB (xs (i + 1))) h)
end CASES
end
section
set_option maxRecDepth 100000
theorem law_exit {i L : Nat} (hL : L ≤ 256) (hi : i ≤ 260) (h : ¬ nI L - nI 4 < nI i) : i + 4 ≤ L := by
  rcases Nat.lt_or_ge L 4 with q | q
  · exact absurd (Int32.lt_of_lt_of_le (pk_sneg (by decide) q) (nI_pos' (by omega))) h
  · rw [pk_sub q] at h
    rcases Nat.lt_or_ge (L - 4) i with z | z
    · exact absurd ((nI_ltI (by omega) (by omega)).mpr z) h
    · omega
section LAW
variable {p : Program} {l : Launch} {e : Env} {s : State} {m : MethodId} {below : List Frame} {meth : Method} {c : Code} {D : va_G} {ad am : Nat → Nat} {dB dI : ClassId} {b L : Nat} {xs : Nat → Int32}
theorem law_end (h : LC p s m meth c D dB dI b L xs) (x : St) (y : MSt) (i : Nat) : LW p l e s m below meth c D ad am dB dI b x y i 539 [] := by
  obtain ⟨C, hX, hbl, hL⟩ := h
  unfold LW
  refine tw_iconst C 1 dL_law_539 (by decide) ?_
  intro H locs ls hP hD hS hl
  obtain ⟨hx, hb, hml, hown, hts, hA, hK, hlocks, hr⟩ := C
  refine va_forget (fun q hq => hS.2.2 q hq) ?_
  refine W.widen (k := 600000) (n := 7290000) (Nat.le_of_ble_eq_true rfl) (Nat.le_of_ble_eq_true rfl) ?_
  exact lw_ret hx hb hr hlocks dL_law_540
theorem law_loop (h : LC p s m meth c D dB dI b L xs) (i : Nat) (x : St) (y : MSt) (hi : i ≤ 260) (hJ : JJ i x y) : LW p l e s m below meth c D ad am dB dI b x y i 18 [] := by
  have h0 := h
  obtain ⟨C, hX, hbl, hL⟩ := h
  have hbA : ¬ (fun q : Nat => s.heap.size ≤ q) b := Nat.not_le.mpr hbl
  refine tw_loop (α := Nat × St × MSt) (fun a => wL ad am dB dI a.2.1 a.2.2) (fun a => [(0, .ref b), (1, .ref (ad 0)), (2, .ref (am 0)), (3, .int (nI a.1))]) (fun a => a.1 ≤ 260 ∧ JJ a.1 a.2.1 a.2.2) (fun a => 300 - a.1) ?_ (i, x, y) ⟨hi, hJ⟩
  rintro ⟨i, x, y⟩ ⟨hi, hJ⟩ ih
  have hi : i ≤ 260 := hi
  have hJ : JJ i x y := hJ
  refine tw_iload_n C dL_law_18 rfl ?_
  refine tw_aload_n C dL_law_19 rfl ?_
  refine tl_slen C hX hbl hbA dL_law_20 ?_
  refine tw_iconst C (nI 4) dL_law_21 (by decide) ?_
  refine tw_isub C dL_law_22 ?_
  refine tw_icmp_gt C 539 dL_law_23 (by decide) (fun _ => law_end h0 x y i) (fun hlt => ?_)
  have hi4 := law_exit hL hi hlt
  have kk : ∀ u w, JJ (i + 1) u w → LW p l e s m below meth c D ad am dB dI b u w i 533 [] := by
    intro u w hj
    unfold LW
    refine tw_iinc C (nI (i + 4)) dL_law_533 rfl (nI_add i 4) (by decide) rfl ?_
    refine tw_goto C 18 dL_law_536 (by decide) ?_
    exact ih (i + 4, u, w) ⟨show i + 4 ≤ 260 by omega, hj.mono (show i + 1 ≤ i + 4 by omega)⟩ (show 300 - (i + 4) < 300 - i by omega)
  refine tw_aload_n C dL_law_26 rfl ?_
  refine tw_iload_n C dL_law_27 rfl ?_
  refine tl_sld C hX hbl hbA (by omega) (by omega) dL_law_28 ?_
  refine tw_bipush C (nI 15) dL_law_29 (by decide) ?_
  refine tw_iand C dL_law_31 ?_
  obtain ⟨j, hj, ej⟩ := pk_andE (xs i) (m := nI 15) 4 (by decide)
  refine tw_top (congrArg Value.int ej) ?_
  rcases (show j = 0 ∨ j = 1 ∨ j = 2 ∨ j = 3 ∨ j = 4 ∨ j = 5 ∨ j = 6 ∨ j = 7 ∨ j = 8 ∨ j = 9 ∨ j = 10 ∨ j = 11 ∨ j = 12 ∨ j = 13 ∨ j = 14 ∨ j = 15 by omega) with rfl | rfl | rfl | rfl | rfl | rfl | rfl | rfl | rfl | rfl | rfl | rfl | rfl | rfl | rfl | rfl
  · exact tl_tableIn C 108 (off := 76) dL_law_32 (by decide) (by decide) (by decide +kernel) (by decide) (k_put h0 hJ hi4 kk)
  · exact tl_tableIn C 141 (off := 109) dL_law_32 (by decide) (by decide) (by decide +kernel) (by decide) (k_remove h0 hJ hi4 kk)
  · exact tl_tableIn C 164 (off := 132) dL_law_32 (by decide) (by decide) (by decide +kernel) (by decide) (k_save h0 hJ hi4 kk)
  · exact tl_tableIn C 177 (off := 145) dL_law_32 (by decide) (by decide) (by decide +kernel) (by decide) (k_goBack h0 hJ hi4 kk)
  · exact tl_tableIn C 200 (off := 168) dL_law_32 (by decide) (by decide) (by decide +kernel) (by decide) (k_kept h0 hJ hi4 kk)
  · exact tl_tableIn C 213 (off := 181) dL_law_32 (by decide) (by decide) (by decide +kernel) (by decide) (k_has h0 hJ hi4 kk)
  · exact tl_tableIn C 246 (off := 214) dL_law_32 (by decide) (by decide) (by decide +kernel) (by decide) (k_get h0 hJ hi4 kk)
  · exact tl_tableIn C 279 (off := 247) dL_law_32 (by decide) (by decide) (by decide +kernel) (by decide) (k_count h0 hJ hi4 kk)
  · exact tl_tableIn C 302 (off := 270) dL_law_32 (by decide) (by decide) (by decide +kernel) (by decide) (k_from h0 hJ hi4 kk)
  · exact tl_tableIn C 335 (off := 303) dL_law_32 (by decide) (by decide) (by decide +kernel) (by decide) (k_upTo h0 hJ hi4 kk)
  · exact tl_tableIn C 368 (off := 336) dL_law_32 (by decide) (by decide) (by decide +kernel) (by decide) (k_keyAt h0 hJ hi4 kk)
  · exact tl_tableIn C 401 (off := 369) dL_law_32 (by decide) (by decide) (by decide +kernel) (by decide) (k_rank h0 hJ hi4 kk)
  · exact tl_tableIn C 434 (off := 402) dL_law_32 (by decide) (by decide) (by decide +kernel) (by decide) (k_sum h0 hJ hi4 kk)
  · exact tl_tableIn C 477 (off := 445) dL_law_32 (by decide) (by decide) (by decide +kernel) (by decide) (k_difference h0 hJ hi4 kk)
  · exact tl_tableIn C 510 (off := 478) dL_law_32 (by decide) (by decide) (by decide +kernel) (by decide) (k_keys h0 hJ hi4 kk)
  · exact tl_tableOut C 533 dL_law_32 (Or.inr (by decide)) (by decide) (kk x y (hJ.mono (by omega)))
end LAW
theorem whole_start {p : Program} {e : Env} {s : State} {m : MethodId} {below : List Frame} {meth : Method} {c : Code} (l : Launch) {b L : Nat} {xs : Nat → Int32} (hL : L ≤ 256) (C0 : lw_At p s m meth c b L xs) : W p l e room_1 s m #[Value.ref b] below meth c s.heap [] 0 0 (lw_Z below #[Value.ref b] s) (entryFrame m ([Value.ref b] : List Value).toArray 4) := by
  obtain ⟨hx, hb, hr, hml, hown, hts0, hX, hbl, hlocks, hgv⟩ := id C0
  have hts : ∀ w ∈ lw_all, w.before #[Value.ref b] s = true := fun w h => hts0 w (lw_all_tbl h)
  obtain ⟨c0, iS0, hKn0⟩ := u_known (C := RX0) (T := TX0) (N := 11) (n := 11) hts in_X0 (hts _ q25)
  obtain ⟨c1, iS1, hKn1⟩ := u_known (C := RX1) (T := TX1) (N := 4) (n := 4) hts in_X1 (hts _ q203)
  obtain ⟨dC, dJ, hKc⟩ : ∃ (dC : Nat → ClassId) (dJ : Nat → Nat → Nat), ∀ (k : Nat) (q : vw_C), vwCl[k]? = some q → u_Kn s q.1 q.2.1 q.2.2 (dC k) (dJ k) := by
    refine ⟨fun k => if k = 0 then c0 else c1, fun k => if k = 0 then iS0 else iS1, ?_⟩
    intro k q hq
    match k, hq with
    | 0, hq => cases hq; exact hKn0
    | 1, hq => cases hq; exact hKn1
    | k + 2, hq => simp [vwCl] at hq
  obtain ⟨dB, hB1, hB2⟩ := arr_byte (hts _ q66)
  obtain ⟨dI, hI1, hI2⟩ := arr_int (hts _ q67)
  have hK : va_K (dC, dJ) vwCl (tyT dB dI) s := by
    refine ⟨hKc, fun k q h => ?_⟩
    match k, h with
    | 0, h => cases h; exact ⟨hB1, hB2⟩
    | 1, h => cases h; exact ⟨hI1, hI2⟩
    | k + 2, h => simp [tyT] at h
  have C : Cx p s m #[Value.ref b] meth c (dC, dJ) (fun q => s.heap.size ≤ q) 4 code R_law (tyT dB dI) ret := ⟨hx, hb, hml, hown, hts, fun _ h => h, hK, hlocks, hr⟩
  have h0 : LC p s m meth c (dC, dJ) dB dI b L xs := ⟨C, hX, hbl, hL⟩
  have key : TW p l e room_1 s m #[Value.ref b] below meth c 0 0 (lw_Z below #[Value.ref b] s) (dC, dJ) (fun q => s.heap.size ≤ q) 4 [] 0 [(0, .ref b)] [] := by
    refine tl_new C (N := 11) (ci := 0) (T := TX0) in_X0 tyX0 tyX0_ok q24 q25 q22 rfl [.null, .null, .null, .null, .null, .null, .null, .int (nI 0), .null, .int (nI 0), .int (nI 0)] (fun j hj => by rcases (show j = 0 ∨ j = 1 ∨ j = 2 ∨ j = 3 ∨ j = 4 ∨ j = 5 ∨ j = 6 ∨ j = 7 ∨ j = 8 ∨ j = 9 ∨ j = 10 by omega) with rfl | rfl | rfl | rfl | rfl | rfl | rfl | rfl | rfl | rfl | rfl <;> rfl) 1 11 rfl rfl ⟨Nat.le_of_ble_eq_true rfl, Nat.le_of_ble_eq_true rfl⟩ dL_law_0 (fun a => ?_)
    refine tw_dup C dL_law_3 rfl ?_
    refine tl_callI C (wr := []) [0] [] (t_init a) rfl rfl (by decide) rfl (by decide) (by decide) q26 q27 q22 q28 rfl rfl rfl (by decide +kernel) ⟨Nat.le_of_ble_eq_true rfl, Nat.le_of_ble_eq_true rfl⟩ 9 1319 rfl rfl ⟨Nat.le_of_ble_eq_true rfl, Nat.le_of_ble_eq_true rfl⟩ (Nat.le_of_ble_eq_true rfl) dL_law_4 (fun ad had => ?_)
    subst had
    refine tw_eq (ws' := wT ad dB dI x0T) rfl ?_
    refine tl_astore_n C dL_law_7 (by decide) rfl ?_
    refine tl_new C (N := 4) (ci := 1) (T := TX1) in_X1 tyX1 tyX1_ok q202 q203 q23 rfl [.null, .null, .int (nI 0), .int (nI 0)] (fun j hj => by rcases (show j = 0 ∨ j = 1 ∨ j = 2 ∨ j = 3 by omega) with rfl | rfl | rfl | rfl <;> rfl) 10 1323 rfl rfl ⟨Nat.le_of_ble_eq_true rfl, Nat.le_of_ble_eq_true rfl⟩ dL_law_8 (fun a => ?_)
    refine tw_dup C dL_law_11 rfl ?_
    refine tl_callI C (wr := wT ad dB dI x0T) [9] [0, 1, 2, 3, 4, 5, 6, 7, 8] (u_init a) rfl rfl (by decide) rfl (by decide) (by decide) q204 q205 q23 q206 rfl rfl rfl (by decide +kernel) ⟨Nat.le_of_ble_eq_true rfl, Nat.le_of_ble_eq_true rfl⟩ 12 1488 rfl rfl ⟨Nat.le_of_ble_eq_true rfl, Nat.le_of_ble_eq_true rfl⟩ (Nat.le_of_ble_eq_true rfl) dL_law_12 (fun am ham => ?_)
    subst ham
    refine tl_astore_n C dL_law_15 (by decide) rfl ?_
    refine tw_iconst C (nI 0) dL_law_16 (by decide) ?_
    refine tw_istore_n C dL_law_17 (by decide) rfl ?_
    exact law_loop h0 0 x0T y0M (by decide) JJ_0
  have hl := lv_entry ([.ref b]) (n := 4) (Nat.le_of_ble_eq_true rfl)
  rw [lg_entry_eq]
  exact key _ _ _ (fun k q h => by simp at h) ⟨fun i j p q h => by simp at h, fun k q h => by simp at h⟩ va_S.rf hl
end
section
set_option maxRecDepth 100000
set_option maxHeartbeats 4000000 in
theorem lw_walk (l : Launch) (b : Addr) (xs : List Int32) : MetFree l x (headSpec (Jvm.Cond.code x code maxLocals ret :: tables_1) room_1) (lw_P b xs) (fun _ _ _ _ _ => True) lw_Q := by
  refine MetFree.of_bodyS (code := code) (maxLocals := maxLocals) (ret := ret) (by decide) ?_ ?_
  · intro args s m h hn
    obtain ⟨meth, c, h1, h2, h3, h4, h5, h6, -, -⟩ := Cond.code_spec hn (atoms_spec (ws := Jvm.Cond.code x code maxLocals ret :: tables_1) h _ List.mem_cons_self)
    exact ⟨meth, c, h1, h2, h3, h4, h5, h6⟩
  · intro p e s m args below meth c s₁ B hml0 hP _
    obtain ⟨rfl, hx, hbd, hgv⟩ := hP
    obtain ⟨scr, harrAt, hlist, hof, hsmall⟩ := hx
    obtain ⟨hcb, hkn, -, -⟩ := State.arrayAt?_spec harrAt
    have hown : s.vm.findClass R_law = some m.cls := findClass_of_methodNamed B.named
    have hts0 : ∀ c ∈ (Jvm.Cond.code x code maxLocals ret :: tables_1), c.before #[Value.ref b] s = true := atoms_spec (ws := Jvm.Cond.code x code maxLocals ret :: tables_1) B.pre
    have hts : ∀ w ∈ lw_tbl, w.before #[Value.ref b] s = true := k2_hts_sels lw_privs (fun w hw => hts0 w (List.mem_cons_of_mem _ hw)) lw_privs_ok
    have hml : c.maxLocals = 4 := B.maxLocals_eq (hts0 _ List.mem_cons_self)
    have X₀ : Stand p l e room_1 s m #[Value.ref b] below meth c s₁ [] 0 0 := Stand.of_body B
    have hh0 : s₁.heap = s.heap := by rw [B.state]; rfl
    have hsz : scr.slots.size = xs.length := by rw [← Array.length_toList, hlist, List.length_map]
    have hval : ∀ j : Nat, j < xs.length → scr.slots[j]? = some (.int (xs.getD j 0)) := fun j hj => by
      rw [← Array.getElem?_toList, hlist]
      simp [hj]
    have hbl : b < s.heap.size := (Array.getElem?_eq_some_iff.mp hcb).1
    have hX : va_X b xs.length (fun j => xs.getD j 0) s s.heap := ⟨scr, hcb, hof, hkn, hsz, hval⟩
    have K : W p l e room_1 s m #[Value.ref b] below meth c s₁.heap [] 0 0 (lw_Z below #[Value.ref b] s) (entryFrame m ([Value.ref b] : List Value).toArray 4) := by
      rw [hh0]
      exact whole_start l hbd ⟨B.exec, B.bytes, B.returns, hml, hown, hts, hX, hbl, B.notSynchronized, hgv⟩
    obtain ⟨t, a1, o, b1, b2, b3⟩ := K s₁ rfl X₀
    exact ⟨t, o, a1, b1, b2, b3⟩
theorem lw_pre_spec {args : Array Value} {s : State} (h : (Jvm.Cond.and given_1 narrow_1).before args s = true) (hr : rest_1_c.before args s = true) : ∃ (b : Addr) (xs : List Int32), lw_P b xs args s := by
  have hs := flat_of_before _ h
  have hq := flat_of_before _ hr
  have hc : (Cond.count 1).before args s = true := hs _ (by decide +kernel)
  have harr : (Cond.arrayOf (.arg 0) .int).before args s = true := hs _ (by decide +kernel)
  have hle : (Cond.le (.length (.arg 0)) (.int 256)).before args s = true := hs _ (by decide +kernel)
  have hlen : (Cond.isInt (.length (.arg 0))).before args s = true := hq _ (by decide +kernel)
  have hall : (Cond.all (.arg 0) (.isInt (.elem (.arg 0) (.index 0)))).before args s = true := hq _ (by decide +kernel)
  obtain ⟨b, xs, hb, hx⟩ := State.ints_of_pre rfl harr hlen hall
  have hsm : xs.length < 2 ^ 31 := hx.choose_spec.2.2.2
  have hev : (Term.length (.arg 0)).eval args s none [] s = some (.int xs.length.toInt32) := hx.length_eval hb
  have hv := Cond.le_ints hev (show (Term.int 256).eval args s none [] s = some (.int 256) from rfl)
  have hd : xs.length.toInt32 ≤ 256 := by
    simpa [Cond.before, Cond.holds, hv] using hle
  have hN : xs.length ≤ 256 := (Int32.ofNat_le_ofNat hsm (by decide)).mp (show Int32.ofNat xs.length ≤ Int32.ofNat 256 from hd)
  exact ⟨b, xs, Cond.one_arg hc (show args[0]? = some (.ref b) from hb), hx, hN, h⟩
theorem lw_comes (l : Launch) : Comes l x (Jvm.Cond.code x code maxLocals ret :: tables_1) room_1 (fun tb e args s => Calls_1 tb e args s ∧ rest_1 tb e args s ∧ Pre_1 tb e args s)
    (fun _ _ args s o t => lw_Q args s o t) := by
  intro p e ha hc hk s m args below hf hfit hheap happ hpre
  obtain ⟨b, xs, hP⟩ := lw_pre_spec hpre.2.2 hpre.2.1
  obtain ⟨k, o, h1, h2, h3, hQ⟩ := lw_walk l b xs p e ha hc hk s m args below hf ((Spec.applies_iff_loose hf).mp happ).1 hP trivial
  exact ⟨k, o, h1, h2, h3, hQ⟩
theorem lw_frame {s t : State} {o : Outcome} {args : Array Value} (h : Framed s o t [] 600000 7290000) :
    Framed s o t (fieldLocs frame_1_writes args s ++ arrayLocs frame_1_arrays args s ++ staticLocs frame_1_statics s) 600000 7290000 := h
theorem lw_limb (L : Cond) (hL : ∀ (args : Array Value) (s t : State), L.after args s (.returned (some (.int 1))) t = true) :
    ArmFor flags0 classFile x code maxLocals ret World_1 tables_1 room_1 Calls_1 rest_1 Pre_1
      (fun tb e a s o t => postC L tb e a s o t ∧ Framed s o t (fieldLocs frame_1_writes a s ++ arrayLocs frame_1_arrays a s ++ staticLocs frame_1_statics s) 600000 7290000) := by
  intro l _ _ _ p e ha hc hk s m args below hf hfit hheap happ hpre
  obtain ⟨k, o, h1, h2, h3, rfl, hF⟩ := lw_comes l p e ha hc hk s m args below hf hfit hheap happ hpre
  exact ⟨k, _, h1, h2, h3, hL args s _, lw_frame hF⟩
theorem i_vc : Claimed_1_1 ∧ Claimed_1_2 := ⟨lw_limb limb_1_1 (fun args s t => by simp [limb_1_1, Cond.after, Cond.holds, Cond.value]), lw_limb limb_1_2 (fun args s t => Cond.after_iff.mpr (by
  first | (rw [show limb_1_2 = Cond.eq .result (.int 1) from rfl, Cond.eq_ints (x := 1) (y := 1) rfl rfl]; simp; done) | (simp [limb_1_2, Cond.value, Term.eval]; done)))⟩
end
