section
-- ===== PART A: goes FIRST, ahead of the names: the tables' words, and 'selects' of the private methods out of them =====
/-- a private method of a class that the tables say can be made, by its rows of tables_1 -/
def lw_okq (q : MethodName × Nat) : Prop := (q.1.cls ≠ "java/lang/invoke/MethodHandle" ∧ q.1.cls ≠ "java/lang/invoke/VarHandle") ∧ Cond.instantiable q.1.cls q.2 ∈ tables_1 ∧ Cond.privateMethod q.1 ∈ tables_1 ∧ Cond.instanceMethod q.1 ∈ tables_1
set_option maxRecDepth 100000
theorem lw_t1 {w : Cond} (h : w ∈ tables_1_1) : w ∈ tables_1 := List.mem_append_left _ h
theorem lw_t2 {w : Cond} (h : w ∈ tables_1_2) : w ∈ tables_1 := List.mem_append_right _ h
theorem lw_p0 : lw_okq (⟨"GlobalTree", "keyOf", "(I)I"⟩, 13) := ⟨⟨by decide +kernel, by decide +kernel⟩, lw_t1 (List.mem_of_getElem? (i := 4) rfl), lw_t1 (List.mem_of_getElem? (i := 72) rfl), lw_t1 (List.mem_of_getElem? (i := 73) rfl)⟩
theorem lw_p1 : lw_okq (⟨"GlobalTree", "present", "(I)Z"⟩, 13) := ⟨⟨by decide +kernel, by decide +kernel⟩, lw_t1 (List.mem_of_getElem? (i := 4) rfl), lw_t1 (List.mem_of_getElem? (i := 79) rfl), lw_t1 (List.mem_of_getElem? (i := 80) rfl)⟩
theorem lw_p2 : lw_okq (⟨"GlobalTree", "seek", "(I)V"⟩, 13) := ⟨⟨by decide +kernel, by decide +kernel⟩, lw_t1 (List.mem_of_getElem? (i := 4) rfl), lw_t1 (List.mem_of_getElem? (i := 83) rfl), lw_t1 (List.mem_of_getElem? (i := 84) rfl)⟩
theorem lw_p3 : lw_okq (⟨"GlobalTree", "found", "()I"⟩, 13) := ⟨⟨by decide +kernel, by decide +kernel⟩, lw_t1 (List.mem_of_getElem? (i := 4) rfl), lw_t1 (List.mem_of_getElem? (i := 87) rfl), lw_t1 (List.mem_of_getElem? (i := 88) rfl)⟩
theorem lw_p4 : lw_okq (⟨"GlobalTree", "put", "(II)V"⟩, 13) := ⟨⟨by decide +kernel, by decide +kernel⟩, lw_t1 (List.mem_of_getElem? (i := 4) rfl), lw_t1 (List.mem_of_getElem? (i := 92) rfl), lw_t1 (List.mem_of_getElem? (i := 93) rfl)⟩
theorem lw_p5 : lw_okq (⟨"GlobalTree", "insert", "(II)V"⟩, 13) := ⟨⟨by decide +kernel, by decide +kernel⟩, lw_t1 (List.mem_of_getElem? (i := 4) rfl), lw_t1 (List.mem_of_getElem? (i := 96) rfl), lw_t1 (List.mem_of_getElem? (i := 97) rfl)⟩
theorem lw_p6 : lw_okq (⟨"GlobalTree", "seekRoom", "(I)V"⟩, 13) := ⟨⟨by decide +kernel, by decide +kernel⟩, lw_t1 (List.mem_of_getElem? (i := 4) rfl), lw_t1 (List.mem_of_getElem? (i := 100) rfl), lw_t1 (List.mem_of_getElem? (i := 101) rfl)⟩
theorem lw_p7 : lw_okq (⟨"GlobalTree", "repack", "()V"⟩, 13) := ⟨⟨by decide +kernel, by decide +kernel⟩, lw_t1 (List.mem_of_getElem? (i := 4) rfl), lw_t1 (List.mem_of_getElem? (i := 104) rfl), lw_t1 (List.mem_of_getElem? (i := 105) rfl)⟩
theorem lw_p8 : lw_okq (⟨"GlobalTree", "splitLeaf", "(I)V"⟩, 13) := ⟨⟨by decide +kernel, by decide +kernel⟩, lw_t1 (List.mem_of_getElem? (i := 4) rfl), lw_t1 (List.mem_of_getElem? (i := 108) rfl), lw_t1 (List.mem_of_getElem? (i := 109) rfl)⟩
theorem lw_p9 : lw_okq (⟨"GlobalTree", "copyLeaf", "(II)V"⟩, 13) := ⟨⟨by decide +kernel, by decide +kernel⟩, lw_t1 (List.mem_of_getElem? (i := 4) rfl), lw_t1 (List.mem_of_getElem? (i := 112) rfl), lw_t1 (List.mem_of_getElem? (i := 113) rfl)⟩
theorem lw_p10 : lw_okq (⟨"GlobalTree", "endOf", "(I)I"⟩, 13) := ⟨⟨by decide +kernel, by decide +kernel⟩, lw_t1 (List.mem_of_getElem? (i := 4) rfl), lw_t1 (List.mem_of_getElem? (i := 124) rfl), lw_t1 (List.mem_of_getElem? (i := 125) rfl)⟩
theorem lw_p11 : lw_okq (⟨"GlobalTree", "removeFound", "()V"⟩, 13) := ⟨⟨by decide +kernel, by decide +kernel⟩, lw_t1 (List.mem_of_getElem? (i := 4) rfl), lw_t1 (List.mem_of_getElem? (i := 128) rfl), lw_t1 (List.mem_of_getElem? (i := 129) rfl)⟩
theorem lw_p12 : lw_okq (⟨"GlobalTree", "keyBehind", "()I"⟩, 13) := ⟨⟨by decide +kernel, by decide +kernel⟩, lw_t1 (List.mem_of_getElem? (i := 4) rfl), lw_t1 (List.mem_of_getElem? (i := 140) rfl), lw_t1 (List.mem_of_getElem? (i := 141) rfl)⟩
theorem lw_p13 : lw_okq (⟨"GlobalTree", "keyBefore", "(I)I"⟩, 13) := ⟨⟨by decide +kernel, by decide +kernel⟩, lw_t1 (List.mem_of_getElem? (i := 4) rfl), lw_t1 (List.mem_of_getElem? (i := 159) rfl), lw_t1 (List.mem_of_getElem? (i := 160) rfl)⟩
theorem lw_p14 : lw_okq (⟨"GlobalTreeModel", "isSubscript", "(I)Z"⟩, 6) := ⟨⟨by decide +kernel, by decide +kernel⟩, lw_t1 (List.mem_of_getElem? (i := 179) rfl), lw_t1 (List.mem_of_getElem? (i := 208) rfl), lw_t1 (List.mem_of_getElem? (i := 209) rfl)⟩
theorem lw_p15 : lw_okq (⟨"GlobalTreeModel", "here", "()I"⟩, 6) := ⟨⟨by decide +kernel, by decide +kernel⟩, lw_t1 (List.mem_of_getElem? (i := 179) rfl), lw_t1 (List.mem_of_getElem? (i := 224) rfl), lw_t1 (List.mem_of_getElem? (i := 225) rfl)⟩
def lw_privs_1 : List (MethodName × Nat) := [(⟨"GlobalTree", "keyOf", "(I)I"⟩, 13), (⟨"GlobalTree", "present", "(I)Z"⟩, 13), (⟨"GlobalTree", "seek", "(I)V"⟩, 13), (⟨"GlobalTree", "found", "()I"⟩, 13), (⟨"GlobalTree", "put", "(II)V"⟩, 13), (⟨"GlobalTree", "insert", "(II)V"⟩, 13), (⟨"GlobalTree", "seekRoom", "(I)V"⟩, 13), (⟨"GlobalTree", "repack", "()V"⟩, 13), (⟨"GlobalTree", "splitLeaf", "(I)V"⟩, 13), (⟨"GlobalTree", "copyLeaf", "(II)V"⟩, 13), (⟨"GlobalTree", "endOf", "(I)I"⟩, 13), (⟨"GlobalTree", "removeFound", "()V"⟩, 13), (⟨"GlobalTree", "keyBehind", "()I"⟩, 13), (⟨"GlobalTree", "keyBefore", "(I)I"⟩, 13), (⟨"GlobalTreeModel", "isSubscript", "(I)Z"⟩, 6), (⟨"GlobalTreeModel", "here", "()I"⟩, 6)]
theorem lw_r1 : ∀ q ∈ lw_privs_1, lw_okq q := List.forall_mem_cons.mpr ⟨lw_p0, List.forall_mem_cons.mpr ⟨lw_p1, List.forall_mem_cons.mpr ⟨lw_p2, List.forall_mem_cons.mpr ⟨lw_p3, List.forall_mem_cons.mpr ⟨lw_p4, List.forall_mem_cons.mpr ⟨lw_p5, List.forall_mem_cons.mpr ⟨lw_p6, List.forall_mem_cons.mpr ⟨lw_p7, List.forall_mem_cons.mpr ⟨lw_p8, List.forall_mem_cons.mpr ⟨lw_p9, List.forall_mem_cons.mpr ⟨lw_p10, List.forall_mem_cons.mpr ⟨lw_p11, List.forall_mem_cons.mpr ⟨lw_p12, List.forall_mem_cons.mpr ⟨lw_p13, List.forall_mem_cons.mpr ⟨lw_p14, List.forall_mem_cons.mpr ⟨lw_p15, fun _ h => absurd h List.not_mem_nil⟩⟩⟩⟩⟩⟩⟩⟩⟩⟩⟩⟩⟩⟩⟩⟩
theorem lw_p16 : lw_okq (⟨"GlobalTreeModel", "begins", "(II)Z"⟩, 6) := ⟨⟨by decide +kernel, by decide +kernel⟩, lw_t1 (List.mem_of_getElem? (i := 179) rfl), lw_t1 (List.mem_of_getElem? (i := 228) rfl), lw_t1 (List.mem_of_getElem? (i := 229) rfl)⟩
theorem lw_p17 : lw_okq (⟨"GlobalTreeModel", "twin", "(III)I"⟩, 6) := ⟨⟨by decide +kernel, by decide +kernel⟩, lw_t1 (List.mem_of_getElem? (i := 179) rfl), lw_t2 (List.mem_of_getElem? (i := 9) rfl), lw_t2 (List.mem_of_getElem? (i := 10) rfl)⟩
theorem lw_p18 : lw_okq (⟨"GlobalTreeModel", "place", "(II)V"⟩, 6) := ⟨⟨by decide +kernel, by decide +kernel⟩, lw_t1 (List.mem_of_getElem? (i := 179) rfl), lw_t2 (List.mem_of_getElem? (i := 13) rfl), lw_t2 (List.mem_of_getElem? (i := 14) rfl)⟩
theorem lw_p19 : lw_okq (⟨"GlobalTreeModel", "nearest", "(III)I"⟩, 6) := ⟨⟨by decide +kernel, by decide +kernel⟩, lw_t1 (List.mem_of_getElem? (i := 179) rfl), lw_t2 (List.mem_of_getElem? (i := 26) rfl), lw_t2 (List.mem_of_getElem? (i := 27) rfl)⟩
theorem lw_p20 : lw_okq (⟨"GlobalTreeModel", "order", "(I)I"⟩, 6) := ⟨⟨by decide +kernel, by decide +kernel⟩, lw_t1 (List.mem_of_getElem? (i := 179) rfl), lw_t2 (List.mem_of_getElem? (i := 42) rfl), lw_t2 (List.mem_of_getElem? (i := 43) rfl)⟩
theorem lw_p21 : lw_okq (⟨"GlobalTreeModel", "earlier", "(II)Z"⟩, 6) := ⟨⟨by decide +kernel, by decide +kernel⟩, lw_t1 (List.mem_of_getElem? (i := 179) rfl), lw_t2 (List.mem_of_getElem? (i := 46) rfl), lw_t2 (List.mem_of_getElem? (i := 47) rfl)⟩
def lw_privs_2 : List (MethodName × Nat) := [(⟨"GlobalTreeModel", "begins", "(II)Z"⟩, 6), (⟨"GlobalTreeModel", "twin", "(III)I"⟩, 6), (⟨"GlobalTreeModel", "place", "(II)V"⟩, 6), (⟨"GlobalTreeModel", "nearest", "(III)I"⟩, 6), (⟨"GlobalTreeModel", "order", "(I)I"⟩, 6), (⟨"GlobalTreeModel", "earlier", "(II)Z"⟩, 6)]
theorem lw_r2 : ∀ q ∈ lw_privs_2, lw_okq q := List.forall_mem_cons.mpr ⟨lw_p16, List.forall_mem_cons.mpr ⟨lw_p17, List.forall_mem_cons.mpr ⟨lw_p18, List.forall_mem_cons.mpr ⟨lw_p19, List.forall_mem_cons.mpr ⟨lw_p20, List.forall_mem_cons.mpr ⟨lw_p21, fun _ h => absurd h List.not_mem_nil⟩⟩⟩⟩⟩⟩
def lw_privs : List (MethodName × Nat) := lw_privs_1 ++ (lw_privs_2)
def lw_tbl : List Cond := k2_sels lw_privs ++ tables_1
theorem lw_privs_ok : ∀ q ∈ lw_privs, lw_okq q := by
  show ∀ q ∈ lw_privs_1 ++ (lw_privs_2), lw_okq q
  exact List.forall_mem_append.mpr ⟨lw_r1, lw_r2⟩
-- ===== ONE list of words for every method: the tables' words that hold all through a run =====
def lw_all : List Cond := lw_tbl.filter goodWord
/-- a word of the tables by its place: claim/WORDS.tsv -/
theorem lw_w {w : Cond} (i : Nat) (h : lw_tbl[i]? = some w) (g : goodWord w = true) : w ∈ lw_all := List.mem_filter.mpr ⟨List.mem_of_getElem? h, g⟩
theorem lw_all_tbl {w : Cond} (h : w ∈ lw_all) : w ∈ lw_tbl := (List.mem_filter.mp h).1
theorem lw_self : GoodIn lw_all lw_all := fun w h => ⟨h, good_of_word (List.mem_filter.mp h).2⟩
/-- a class's field words, by their places -/
theorem lw_in (ws : List Cond) (ps : List Nat) (hp : ws = ps.filterMap (fun i => lw_tbl[i]?)) (hg : ws.all goodWord = true) : ∀ w ∈ ws, w ∈ lw_all := by
  intro w h
  have h1 := List.all_eq_true.mp hg w h
  rw [hp] at h
  obtain ⟨i, -, hi⟩ := List.mem_filterMap.mp h
  exact lw_w i hi h1
/-- the words of a contract for the method y with code b, L locals, answer r -/
abbrev ws_ (y : MethodName) (b : ByteArray) (L : Nat) (r : Option FieldType) : List Cond := Cond.code y b L r :: lw_all
theorem lw_meth {y : MethodName} {b : ByteArray} {L : Nat} {r : Option FieldType} (h : Cond.code y b L r ∈ lw_all) : GoodIn lw_all (ws_ y b L r) := by
  intro w hw
  rcases List.mem_cons.mp hw with e | e
  · rw [e]
    exact lw_self _ h
  · exact lw_self _ e
theorem lw_app {a c : List Cond} (ha : ∀ w ∈ a, w ∈ lw_all) (hc : GoodIn lw_all c) : GoodIn lw_all (a ++ c) := by
  intro w hw
  rcases List.mem_append.mp hw with e | e
  · exact lw_self w (ha w e)
  · exact hc w e
/-- what a call through an object asks: cwV n hts (lw_V ..) -/
theorem lw_V {own : String} {idx : Nat} {C : String} {y : MethodName} {b : ByteArray} {L : Nat} {r : Option FieldType} (h1 : Cond.methodLink own idx y ∈ lw_all) (h2 : Cond.instanceMethod y ∈ lw_all) (h3 : Cond.selects C y y ∈ lw_all) (h4 : Cond.initialized C ∈ lw_all) (h5 : Cond.code y b L r ∈ lw_all) : GoodIn lw_all (wsV own idx C y (ws_ y b L r)) := by
  refine lw_app ?_ (lw_meth h5)
  intro w hw
  simp only [List.mem_cons, List.not_mem_nil, or_false] at hw
  rcases hw with e | e | e | e
  · rw [e]; exact h1
  · rw [e]; exact h2
  · rw [e]; exact h3
  · rw [e]; exact h4
/-- what a static call asks: va_cwS n hts (lw_S ..) -/
theorem lw_S {own : String} {idx : Nat} {y : MethodName} {b : ByteArray} {L : Nat} {r : Option FieldType} (h1 : Cond.methodLink own idx y ∈ lw_all) (h2 : Cond.static y ∈ lw_all) (h3 : Cond.initialized y.cls ∈ lw_all) (h4 : Cond.code y b L r ∈ lw_all) : GoodIn lw_all (va_wsS own idx y (ws_ y b L r)) := by
  refine lw_app ?_ (lw_meth h4)
  intro w hw
  simp only [List.mem_cons, List.not_mem_nil, or_false] at hw
  rcases hw with e | e | e
  · rw [e]; exact h1
  · rw [e]; exact h2
  · rw [e]; exact h3
/-- the words of a contract for a method WITH HANDLERS (hh: its table) -/
abbrev wsW_ (y : MethodName) (b : ByteArray) (L : Nat) (r : Option FieldType) (hh : List (Nat × Nat × Nat × Nat)) : List Cond := Cond.codeWith y b L r hh :: lw_all
theorem lw_methW {y : MethodName} {b : ByteArray} {L : Nat} {r : Option FieldType} {hh : List (Nat × Nat × Nat × Nat)} (h : Cond.codeWith y b L r hh ∈ lw_all) : GoodIn lw_all (wsW_ y b L r hh) := by
  intro w hw
  rcases List.mem_cons.mp hw with e | e
  · rw [e]
    exact lw_self _ h
  · exact lw_self _ e
/-- any list of words by their places (lw_in), good -/
theorem lw_good {ws : List Cond} (h : ∀ w ∈ ws, w ∈ lw_all) : GoodIn lw_all ws := fun w hw => lw_self w (h w hw)
/-- what a call of a method with handlers asks: vx_cwVW n hts (lw_VW ..), vx_cwSW n hts (lw_SW ..) -/
theorem lw_VW {own : String} {idx : Nat} {C : String} {y : MethodName} {b : ByteArray} {L : Nat} {r : Option FieldType} {hh : List (Nat × Nat × Nat × Nat)} (h1 : Cond.methodLink own idx y ∈ lw_all) (h2 : Cond.instanceMethod y ∈ lw_all) (h3 : Cond.selects C y y ∈ lw_all) (h4 : Cond.initialized C ∈ lw_all) (h5 : Cond.codeWith y b L r hh ∈ lw_all) : GoodIn lw_all (wsV own idx C y (wsW_ y b L r hh)) := by
  refine lw_app ?_ (lw_methW h5)
  intro w hw
  simp only [List.mem_cons, List.not_mem_nil, or_false] at hw
  rcases hw with e | e | e | e
  · rw [e]; exact h1
  · rw [e]; exact h2
  · rw [e]; exact h3
  · rw [e]; exact h4
theorem lw_SW {own : String} {idx : Nat} {y : MethodName} {b : ByteArray} {L : Nat} {r : Option FieldType} {hh : List (Nat × Nat × Nat × Nat)} (h1 : Cond.methodLink own idx y ∈ lw_all) (h2 : Cond.static y ∈ lw_all) (h3 : Cond.initialized y.cls ∈ lw_all) (h4 : Cond.codeWith y b L r hh ∈ lw_all) : GoodIn lw_all (va_wsS own idx y (wsW_ y b L r hh)) := by
  refine lw_app ?_ (lw_methW h4)
  intro w hw
  simp only [List.mem_cons, List.not_mem_nil, or_false] at hw
  rcases hw with e | e | e
  · rw [e]; exact h1
  · rw [e]; exact h2
  · rw [e]; exact h3
/-- a word by its place in its run of the tables -/
theorem lw_at {r : List Cond} (hr : ∀ w ∈ r, w ∈ lw_tbl) {w : Cond} (i : Nat) (h : r[i]? = some w) : w ∈ lw_tbl := hr w (List.mem_of_getElem? h)
theorem lw_g {w : Cond} (h : w ∈ lw_tbl) (g : goodWord w = true) : w ∈ lw_all := List.mem_filter.mpr ⟨h, g⟩
theorem lw_ms : ∀ w ∈ k2_sels lw_privs, w ∈ lw_tbl := fun w h => show w ∈ k2_sels lw_privs ++ tables_1 from List.mem_append_left _ h
theorem lw_m1 : ∀ w ∈ tables_1_1, w ∈ lw_tbl := fun w h => show w ∈ k2_sels lw_privs ++ tables_1 from List.mem_append_right (k2_sels lw_privs) (show w ∈ tables_1 from List.mem_append_left _ h)
theorem lw_m2 : ∀ w ∈ tables_1_2, w ∈ lw_tbl := fun w h => show w ∈ k2_sels lw_privs ++ tables_1 from List.mem_append_right (k2_sels lw_privs) (show w ∈ tables_1 from List.mem_append_right _ h)
theorem qs0 : (Cond.selects "GlobalTree" ⟨"GlobalTree", "keyOf", "(I)I"⟩ ⟨"GlobalTree", "keyOf", "(I)I"⟩) ∈ lw_all := lw_g (lw_at lw_ms 0 rfl) rfl
theorem qs1 : (Cond.selects "GlobalTree" ⟨"GlobalTree", "present", "(I)Z"⟩ ⟨"GlobalTree", "present", "(I)Z"⟩) ∈ lw_all := lw_g (lw_at lw_ms 1 rfl) rfl
theorem qs2 : (Cond.selects "GlobalTree" ⟨"GlobalTree", "seek", "(I)V"⟩ ⟨"GlobalTree", "seek", "(I)V"⟩) ∈ lw_all := lw_g (lw_at lw_ms 2 rfl) rfl
theorem qs3 : (Cond.selects "GlobalTree" ⟨"GlobalTree", "found", "()I"⟩ ⟨"GlobalTree", "found", "()I"⟩) ∈ lw_all := lw_g (lw_at lw_ms 3 rfl) rfl
theorem qs4 : (Cond.selects "GlobalTree" ⟨"GlobalTree", "put", "(II)V"⟩ ⟨"GlobalTree", "put", "(II)V"⟩) ∈ lw_all := lw_g (lw_at lw_ms 4 rfl) rfl
theorem qs5 : (Cond.selects "GlobalTree" ⟨"GlobalTree", "insert", "(II)V"⟩ ⟨"GlobalTree", "insert", "(II)V"⟩) ∈ lw_all := lw_g (lw_at lw_ms 5 rfl) rfl
theorem qs6 : (Cond.selects "GlobalTree" ⟨"GlobalTree", "seekRoom", "(I)V"⟩ ⟨"GlobalTree", "seekRoom", "(I)V"⟩) ∈ lw_all := lw_g (lw_at lw_ms 6 rfl) rfl
theorem qs7 : (Cond.selects "GlobalTree" ⟨"GlobalTree", "repack", "()V"⟩ ⟨"GlobalTree", "repack", "()V"⟩) ∈ lw_all := lw_g (lw_at lw_ms 7 rfl) rfl
theorem qs8 : (Cond.selects "GlobalTree" ⟨"GlobalTree", "splitLeaf", "(I)V"⟩ ⟨"GlobalTree", "splitLeaf", "(I)V"⟩) ∈ lw_all := lw_g (lw_at lw_ms 8 rfl) rfl
theorem qs9 : (Cond.selects "GlobalTree" ⟨"GlobalTree", "copyLeaf", "(II)V"⟩ ⟨"GlobalTree", "copyLeaf", "(II)V"⟩) ∈ lw_all := lw_g (lw_at lw_ms 9 rfl) rfl
theorem qs10 : (Cond.selects "GlobalTree" ⟨"GlobalTree", "endOf", "(I)I"⟩ ⟨"GlobalTree", "endOf", "(I)I"⟩) ∈ lw_all := lw_g (lw_at lw_ms 10 rfl) rfl
theorem qs11 : (Cond.selects "GlobalTree" ⟨"GlobalTree", "removeFound", "()V"⟩ ⟨"GlobalTree", "removeFound", "()V"⟩) ∈ lw_all := lw_g (lw_at lw_ms 11 rfl) rfl
theorem qs12 : (Cond.selects "GlobalTree" ⟨"GlobalTree", "keyBehind", "()I"⟩ ⟨"GlobalTree", "keyBehind", "()I"⟩) ∈ lw_all := lw_g (lw_at lw_ms 12 rfl) rfl
theorem qs13 : (Cond.selects "GlobalTree" ⟨"GlobalTree", "keyBefore", "(I)I"⟩ ⟨"GlobalTree", "keyBefore", "(I)I"⟩) ∈ lw_all := lw_g (lw_at lw_ms 13 rfl) rfl
theorem qs14 : (Cond.selects "GlobalTreeModel" ⟨"GlobalTreeModel", "isSubscript", "(I)Z"⟩ ⟨"GlobalTreeModel", "isSubscript", "(I)Z"⟩) ∈ lw_all := lw_g (lw_at lw_ms 14 rfl) rfl
theorem qs15 : (Cond.selects "GlobalTreeModel" ⟨"GlobalTreeModel", "here", "()I"⟩ ⟨"GlobalTreeModel", "here", "()I"⟩) ∈ lw_all := lw_g (lw_at lw_ms 15 rfl) rfl
theorem qs16 : (Cond.selects "GlobalTreeModel" ⟨"GlobalTreeModel", "begins", "(II)Z"⟩ ⟨"GlobalTreeModel", "begins", "(II)Z"⟩) ∈ lw_all := lw_g (lw_at lw_ms 16 rfl) rfl
theorem qs17 : (Cond.selects "GlobalTreeModel" ⟨"GlobalTreeModel", "twin", "(III)I"⟩ ⟨"GlobalTreeModel", "twin", "(III)I"⟩) ∈ lw_all := lw_g (lw_at lw_ms 17 rfl) rfl
theorem qs18 : (Cond.selects "GlobalTreeModel" ⟨"GlobalTreeModel", "place", "(II)V"⟩ ⟨"GlobalTreeModel", "place", "(II)V"⟩) ∈ lw_all := lw_g (lw_at lw_ms 18 rfl) rfl
theorem qs19 : (Cond.selects "GlobalTreeModel" ⟨"GlobalTreeModel", "nearest", "(III)I"⟩ ⟨"GlobalTreeModel", "nearest", "(III)I"⟩) ∈ lw_all := lw_g (lw_at lw_ms 19 rfl) rfl
theorem qs20 : (Cond.selects "GlobalTreeModel" ⟨"GlobalTreeModel", "order", "(I)I"⟩ ⟨"GlobalTreeModel", "order", "(I)I"⟩) ∈ lw_all := lw_g (lw_at lw_ms 20 rfl) rfl
theorem qs21 : (Cond.selects "GlobalTreeModel" ⟨"GlobalTreeModel", "earlier", "(II)Z"⟩ ⟨"GlobalTreeModel", "earlier", "(II)Z"⟩) ∈ lw_all := lw_g (lw_at lw_ms 21 rfl) rfl
end
section
/-! GlobalTree -/
set_option maxRecDepth 100000
def RX0 : String := "GlobalTree"
def TX0 : u_T := fun k => match k with
  | 0 => ("GlobalTree", "depth", "I", false)
  | 1 => ("GlobalTree", "subscript", "[I", true)
  | 2 => ("GlobalTree", "leaves", "I", false)
  | 3 => ("GlobalTree", "size", "[I", true)
  | 4 => ("GlobalTree", "keys", "[I", true)
  | 5 => ("GlobalTree", "values", "[I", true)
  | 6 => ("GlobalTree", "total", "I", false)
  | 7 => ("GlobalTree", "leaf", "I", false)
  | 8 => ("GlobalTree", "slot", "I", false)
  | 9 => ("GlobalTree", "movedKey", "[I", true)
  | 10 => ("GlobalTree", "movedValue", "[I", true)
  | 11 => ("GlobalTree", "packedKey", "[I", true)
  | _ => ("GlobalTree", "packedValue", "[I", true)
def tyX0 : Nat → FieldType := fun k => match k with
  | 0 => .int
  | 1 => .array .int
  | 2 => .int
  | 3 => .array .int
  | 4 => .array .int
  | 5 => .array .int
  | 6 => .int
  | 7 => .int
  | 8 => .int
  | 9 => .array .int
  | 10 => .array .int
  | 11 => .array .int
  | _ => .array .int
abbrev wsX00 : List Cond := u_ws RX0 TX0 13
set_option maxRecDepth 100000 in
theorem nmX0 : ∀ a, a < 13 → ∀ b, b < 13 → a ≠ b → (TX0 a).2.1 ≠ (TX0 b).2.1 := by decide +kernel
set_option maxRecDepth 100000 in
theorem tyX0_ok : ∀ k, k < 13 → parseFieldDescriptor (TX0 k).2.2.1 = some (tyX0 k) := by decide +kernel
abbrev cX0_init : ByteArray := prog_1_method_1_code
def yX0_init : MethodName := ⟨RX0, "<init>", "()V"⟩
theorem dX0_init_0 : decode cX0_init 0 = .ok (.aload_n 0, 1) := by decide +kernel
theorem dX0_init_1 : decode cX0_init 1 = .ok (.invokespecial 1, 3) := by decide +kernel
theorem dX0_init_4 : decode cX0_init 4 = .ok (.aload_n 0, 1) := by decide +kernel
theorem dX0_init_5 : decode cX0_init 5 = .ok (.iconst 3, 1) := by decide +kernel
theorem dX0_init_6 : decode cX0_init 6 = .ok (.newarray .int, 2) := by decide +kernel
theorem dX0_init_8 : decode cX0_init 8 = .ok (.putfield 7, 3) := by decide +kernel
theorem dX0_init_11 : decode cX0_init 11 = .ok (.aload_n 0, 1) := by decide +kernel
theorem dX0_init_12 : decode cX0_init 12 = .ok (.bipush 32, 2) := by decide +kernel
theorem dX0_init_14 : decode cX0_init 14 = .ok (.newarray .int, 2) := by decide +kernel
theorem dX0_init_16 : decode cX0_init 16 = .ok (.putfield 13, 3) := by decide +kernel
theorem dX0_init_19 : decode cX0_init 19 = .ok (.aload_n 0, 1) := by decide +kernel
theorem dX0_init_20 : decode cX0_init 20 = .ok (.sipush 256, 3) := by decide +kernel
theorem dX0_init_23 : decode cX0_init 23 = .ok (.newarray .int, 2) := by decide +kernel
theorem dX0_init_25 : decode cX0_init 25 = .ok (.putfield 16, 3) := by decide +kernel
theorem dX0_init_28 : decode cX0_init 28 = .ok (.aload_n 0, 1) := by decide +kernel
theorem dX0_init_29 : decode cX0_init 29 = .ok (.sipush 256, 3) := by decide +kernel
theorem dX0_init_32 : decode cX0_init 32 = .ok (.newarray .int, 2) := by decide +kernel
theorem dX0_init_34 : decode cX0_init 34 = .ok (.putfield 19, 3) := by decide +kernel
theorem dX0_init_37 : decode cX0_init 37 = .ok (.aload_n 0, 1) := by decide +kernel
theorem dX0_init_38 : decode cX0_init 38 = .ok (.bipush 60, 2) := by decide +kernel
theorem dX0_init_40 : decode cX0_init 40 = .ok (.newarray .int, 2) := by decide +kernel
theorem dX0_init_42 : decode cX0_init 42 = .ok (.putfield 22, 3) := by decide +kernel
theorem dX0_init_45 : decode cX0_init 45 = .ok (.aload_n 0, 1) := by decide +kernel
theorem dX0_init_46 : decode cX0_init 46 = .ok (.bipush 60, 2) := by decide +kernel
theorem dX0_init_48 : decode cX0_init 48 = .ok (.newarray .int, 2) := by decide +kernel
theorem dX0_init_50 : decode cX0_init 50 = .ok (.putfield 25, 3) := by decide +kernel
theorem dX0_init_53 : decode cX0_init 53 = .ok (.aload_n 0, 1) := by decide +kernel
theorem dX0_init_54 : decode cX0_init 54 = .ok (.bipush 60, 2) := by decide +kernel
theorem dX0_init_56 : decode cX0_init 56 = .ok (.newarray .int, 2) := by decide +kernel
theorem dX0_init_58 : decode cX0_init 58 = .ok (.putfield 28, 3) := by decide +kernel
theorem dX0_init_61 : decode cX0_init 61 = .ok (.aload_n 0, 1) := by decide +kernel
theorem dX0_init_62 : decode cX0_init 62 = .ok (.bipush 60, 2) := by decide +kernel
theorem dX0_init_64 : decode cX0_init 64 = .ok (.newarray .int, 2) := by decide +kernel
theorem dX0_init_66 : decode cX0_init 66 = .ok (.putfield 31, 3) := by decide +kernel
theorem dX0_init_69 : decode cX0_init 69 = .ok (.aload_n 0, 1) := by decide +kernel
theorem dX0_init_70 : decode cX0_init 70 = .ok (.iconst 1, 1) := by decide +kernel
theorem dX0_init_71 : decode cX0_init 71 = .ok (.putfield 34, 3) := by decide +kernel
theorem dX0_init_74 : decode cX0_init 74 = .ok (.return_, 1) := by decide +kernel
abbrev cX0_down : ByteArray := prog_1_method_3_code
def yX0_down : MethodName := ⟨RX0, "down", "(I)I"⟩
theorem dX0_down_0 : decode cX0_down 0 = .ok (.iload_n 1, 1) := by decide +kernel
theorem dX0_down_1 : decode cX0_down 1 = .ok (.invokestatic 38, 3) := by decide +kernel
theorem dX0_down_4 : decode cX0_down 4 = .ok (.ifCond .eq 5, 3) := by decide +kernel
theorem dX0_down_7 : decode cX0_down 7 = .ok (.iconst (-1), 1) := by decide +kernel
theorem dX0_down_8 : decode cX0_down 8 = .ok (.ireturn, 1) := by decide +kernel
theorem dX0_down_9 : decode cX0_down 9 = .ok (.aload_n 0, 1) := by decide +kernel
theorem dX0_down_10 : decode cX0_down 10 = .ok (.getfield 42, 3) := by decide +kernel
theorem dX0_down_13 : decode cX0_down 13 = .ok (.iconst 3, 1) := by decide +kernel
theorem dX0_down_14 : decode cX0_down 14 = .ok (.if_icmp .lt 6, 3) := by decide +kernel
theorem dX0_down_17 : decode cX0_down 17 = .ok (.bipush (-2), 2) := by decide +kernel
theorem dX0_down_19 : decode cX0_down 19 = .ok (.ireturn, 1) := by decide +kernel
theorem dX0_down_20 : decode cX0_down 20 = .ok (.aload_n 0, 1) := by decide +kernel
theorem dX0_down_21 : decode cX0_down 21 = .ok (.getfield 7, 3) := by decide +kernel
theorem dX0_down_24 : decode cX0_down 24 = .ok (.aload_n 0, 1) := by decide +kernel
theorem dX0_down_25 : decode cX0_down 25 = .ok (.getfield 42, 3) := by decide +kernel
theorem dX0_down_28 : decode cX0_down 28 = .ok (.iload_n 1, 1) := by decide +kernel
theorem dX0_down_29 : decode cX0_down 29 = .ok (.bipush 51, 2) := by decide +kernel
theorem dX0_down_31 : decode cX0_down 31 = .ok (.iadd, 1) := by decide +kernel
theorem dX0_down_32 : decode cX0_down 32 = .ok (.iastore, 1) := by decide +kernel
theorem dX0_down_33 : decode cX0_down 33 = .ok (.aload_n 0, 1) := by decide +kernel
theorem dX0_down_34 : decode cX0_down 34 = .ok (.dup, 1) := by decide +kernel
theorem dX0_down_35 : decode cX0_down 35 = .ok (.getfield 42, 3) := by decide +kernel
theorem dX0_down_38 : decode cX0_down 38 = .ok (.iconst 1, 1) := by decide +kernel
theorem dX0_down_39 : decode cX0_down 39 = .ok (.iadd, 1) := by decide +kernel
theorem dX0_down_40 : decode cX0_down 40 = .ok (.putfield 42, 3) := by decide +kernel
theorem dX0_down_43 : decode cX0_down 43 = .ok (.aload_n 0, 1) := by decide +kernel
theorem dX0_down_44 : decode cX0_down 44 = .ok (.getfield 42, 3) := by decide +kernel
theorem dX0_down_47 : decode cX0_down 47 = .ok (.ireturn, 1) := by decide +kernel
abbrev cX0_bad : ByteArray := prog_1_method_2_code
def yX0_bad : MethodName := ⟨RX0, "bad", "(I)Z"⟩
theorem dX0_bad_0 : decode cX0_bad 0 = .ok (.iload_n 0, 1) := by decide +kernel
theorem dX0_bad_1 : decode cX0_bad 1 = .ok (.bipush (-50), 2) := by decide +kernel
theorem dX0_bad_3 : decode cX0_bad 3 = .ok (.if_icmp .lt 9, 3) := by decide +kernel
theorem dX0_bad_6 : decode cX0_bad 6 = .ok (.iload_n 0, 1) := by decide +kernel
theorem dX0_bad_7 : decode cX0_bad 7 = .ok (.bipush 50, 2) := by decide +kernel
theorem dX0_bad_9 : decode cX0_bad 9 = .ok (.if_icmp .le 7, 3) := by decide +kernel
theorem dX0_bad_12 : decode cX0_bad 12 = .ok (.iconst 1, 1) := by decide +kernel
theorem dX0_bad_13 : decode cX0_bad 13 = .ok (.goto 4, 3) := by decide +kernel
theorem dX0_bad_16 : decode cX0_bad 16 = .ok (.iconst 0, 1) := by decide +kernel
theorem dX0_bad_17 : decode cX0_bad 17 = .ok (.ireturn, 1) := by decide +kernel
abbrev cX0_up : ByteArray := prog_1_method_4_code
def yX0_up : MethodName := ⟨RX0, "up", "()I"⟩
theorem dX0_up_0 : decode cX0_up 0 = .ok (.aload_n 0, 1) := by decide +kernel
theorem dX0_up_1 : decode cX0_up 1 = .ok (.getfield 42, 3) := by decide +kernel
theorem dX0_up_4 : decode cX0_up 4 = .ok (.ifCond .ne 6, 3) := by decide +kernel
theorem dX0_up_7 : decode cX0_up 7 = .ok (.bipush (-3), 2) := by decide +kernel
theorem dX0_up_9 : decode cX0_up 9 = .ok (.ireturn, 1) := by decide +kernel
theorem dX0_up_10 : decode cX0_up 10 = .ok (.aload_n 0, 1) := by decide +kernel
theorem dX0_up_11 : decode cX0_up 11 = .ok (.dup, 1) := by decide +kernel
theorem dX0_up_12 : decode cX0_up 12 = .ok (.getfield 42, 3) := by decide +kernel
theorem dX0_up_15 : decode cX0_up 15 = .ok (.iconst 1, 1) := by decide +kernel
theorem dX0_up_16 : decode cX0_up 16 = .ok (.isub, 1) := by decide +kernel
theorem dX0_up_17 : decode cX0_up 17 = .ok (.putfield 42, 3) := by decide +kernel
theorem dX0_up_20 : decode cX0_up 20 = .ok (.aload_n 0, 1) := by decide +kernel
theorem dX0_up_21 : decode cX0_up 21 = .ok (.getfield 42, 3) := by decide +kernel
theorem dX0_up_24 : decode cX0_up 24 = .ok (.ireturn, 1) := by decide +kernel
abbrev cX0_turn : ByteArray := prog_1_method_5_code
def yX0_turn : MethodName := ⟨RX0, "turn", "(I)I"⟩
theorem dX0_turn_0 : decode cX0_turn 0 = .ok (.aload_n 0, 1) := by decide +kernel
theorem dX0_turn_1 : decode cX0_turn 1 = .ok (.getfield 42, 3) := by decide +kernel
theorem dX0_turn_4 : decode cX0_turn 4 = .ok (.ifCond .ne 6, 3) := by decide +kernel
theorem dX0_turn_7 : decode cX0_turn 7 = .ok (.bipush (-3), 2) := by decide +kernel
theorem dX0_turn_9 : decode cX0_turn 9 = .ok (.ireturn, 1) := by decide +kernel
theorem dX0_turn_10 : decode cX0_turn 10 = .ok (.iload_n 1, 1) := by decide +kernel
theorem dX0_turn_11 : decode cX0_turn 11 = .ok (.invokestatic 38, 3) := by decide +kernel
theorem dX0_turn_14 : decode cX0_turn 14 = .ok (.ifCond .eq 5, 3) := by decide +kernel
theorem dX0_turn_17 : decode cX0_turn 17 = .ok (.iconst (-1), 1) := by decide +kernel
theorem dX0_turn_18 : decode cX0_turn 18 = .ok (.ireturn, 1) := by decide +kernel
theorem dX0_turn_19 : decode cX0_turn 19 = .ok (.aload_n 0, 1) := by decide +kernel
theorem dX0_turn_20 : decode cX0_turn 20 = .ok (.getfield 7, 3) := by decide +kernel
theorem dX0_turn_23 : decode cX0_turn 23 = .ok (.aload_n 0, 1) := by decide +kernel
theorem dX0_turn_24 : decode cX0_turn 24 = .ok (.getfield 42, 3) := by decide +kernel
theorem dX0_turn_27 : decode cX0_turn 27 = .ok (.iconst 1, 1) := by decide +kernel
theorem dX0_turn_28 : decode cX0_turn 28 = .ok (.isub, 1) := by decide +kernel
theorem dX0_turn_29 : decode cX0_turn 29 = .ok (.iaload, 1) := by decide +kernel
theorem dX0_turn_30 : decode cX0_turn 30 = .ok (.bipush 51, 2) := by decide +kernel
theorem dX0_turn_32 : decode cX0_turn 32 = .ok (.isub, 1) := by decide +kernel
theorem dX0_turn_33 : decode cX0_turn 33 = .ok (.istore_n 2, 1) := by decide +kernel
theorem dX0_turn_34 : decode cX0_turn 34 = .ok (.aload_n 0, 1) := by decide +kernel
theorem dX0_turn_35 : decode cX0_turn 35 = .ok (.getfield 7, 3) := by decide +kernel
theorem dX0_turn_38 : decode cX0_turn 38 = .ok (.aload_n 0, 1) := by decide +kernel
theorem dX0_turn_39 : decode cX0_turn 39 = .ok (.getfield 42, 3) := by decide +kernel
theorem dX0_turn_42 : decode cX0_turn 42 = .ok (.iconst 1, 1) := by decide +kernel
theorem dX0_turn_43 : decode cX0_turn 43 = .ok (.isub, 1) := by decide +kernel
theorem dX0_turn_44 : decode cX0_turn 44 = .ok (.iload_n 1, 1) := by decide +kernel
theorem dX0_turn_45 : decode cX0_turn 45 = .ok (.bipush 51, 2) := by decide +kernel
theorem dX0_turn_47 : decode cX0_turn 47 = .ok (.iadd, 1) := by decide +kernel
theorem dX0_turn_48 : decode cX0_turn 48 = .ok (.iastore, 1) := by decide +kernel
theorem dX0_turn_49 : decode cX0_turn 49 = .ok (.iload_n 2, 1) := by decide +kernel
theorem dX0_turn_50 : decode cX0_turn 50 = .ok (.ireturn, 1) := by decide +kernel
abbrev cX0_set : ByteArray := prog_1_method_21_code
def yX0_set : MethodName := ⟨RX0, "set", "(I)I"⟩
theorem dX0_set_0 : decode cX0_set 0 = .ok (.aload_n 0, 1) := by decide +kernel
theorem dX0_set_1 : decode cX0_set 1 = .ok (.getfield 42, 3) := by decide +kernel
theorem dX0_set_4 : decode cX0_set 4 = .ok (.ifCond .ne 6, 3) := by decide +kernel
theorem dX0_set_7 : decode cX0_set 7 = .ok (.bipush (-3), 2) := by decide +kernel
theorem dX0_set_9 : decode cX0_set 9 = .ok (.ireturn, 1) := by decide +kernel
theorem dX0_set_10 : decode cX0_set 10 = .ok (.aload_n 0, 1) := by decide +kernel
theorem dX0_set_11 : decode cX0_set 11 = .ok (.aload_n 0, 1) := by decide +kernel
theorem dX0_set_12 : decode cX0_set 12 = .ok (.getfield 42, 3) := by decide +kernel
theorem dX0_set_15 : decode cX0_set 15 = .ok (.invokevirtual 50, 3) := by decide +kernel
theorem dX0_set_18 : decode cX0_set 18 = .ok (.istore_n 2, 1) := by decide +kernel
theorem dX0_set_19 : decode cX0_set 19 = .ok (.aload_n 0, 1) := by decide +kernel
theorem dX0_set_20 : decode cX0_set 20 = .ok (.iload_n 2, 1) := by decide +kernel
theorem dX0_set_21 : decode cX0_set 21 = .ok (.invokevirtual 83, 3) := by decide +kernel
theorem dX0_set_24 : decode cX0_set 24 = .ok (.istore_n 3, 1) := by decide +kernel
theorem dX0_set_25 : decode cX0_set 25 = .ok (.iload_n 3, 1) := by decide +kernel
theorem dX0_set_26 : decode cX0_set 26 = .ok (.ifCond .ne 15, 3) := by decide +kernel
theorem dX0_set_29 : decode cX0_set 29 = .ok (.aload_n 0, 1) := by decide +kernel
theorem dX0_set_30 : decode cX0_set 30 = .ok (.getfield 80, 3) := by decide +kernel
theorem dX0_set_33 : decode cX0_set 33 = .ok (.bipush 60, 2) := by decide +kernel
theorem dX0_set_35 : decode cX0_set 35 = .ok (.if_icmp .lt 6, 3) := by decide +kernel
theorem dX0_set_38 : decode cX0_set 38 = .ok (.bipush (-2), 2) := by decide +kernel
theorem dX0_set_40 : decode cX0_set 40 = .ok (.ireturn, 1) := by decide +kernel
theorem dX0_set_41 : decode cX0_set 41 = .ok (.aload_n 0, 1) := by decide +kernel
theorem dX0_set_42 : decode cX0_set 42 = .ok (.iload_n 2, 1) := by decide +kernel
theorem dX0_set_43 : decode cX0_set 43 = .ok (.iload_n 1, 1) := by decide +kernel
theorem dX0_set_44 : decode cX0_set 44 = .ok (.invokevirtual 89, 3) := by decide +kernel
theorem dX0_set_47 : decode cX0_set 47 = .ok (.iload_n 3, 1) := by decide +kernel
theorem dX0_set_48 : decode cX0_set 48 = .ok (.ifCond .eq 7, 3) := by decide +kernel
theorem dX0_set_51 : decode cX0_set 51 = .ok (.iconst 1, 1) := by decide +kernel
theorem dX0_set_52 : decode cX0_set 52 = .ok (.goto 4, 3) := by decide +kernel
theorem dX0_set_55 : decode cX0_set 55 = .ok (.iconst 0, 1) := by decide +kernel
theorem dX0_set_56 : decode cX0_set 56 = .ok (.ireturn, 1) := by decide +kernel
abbrev cX0_keyOf : ByteArray := prog_1_method_7_code
def yX0_keyOf : MethodName := ⟨RX0, "keyOf", "(I)I"⟩
theorem dX0_keyOf_0 : decode cX0_keyOf 0 = .ok (.iconst 0, 1) := by decide +kernel
theorem dX0_keyOf_1 : decode cX0_keyOf 1 = .ok (.istore_n 2, 1) := by decide +kernel
theorem dX0_keyOf_2 : decode cX0_keyOf 2 = .ok (.iconst 0, 1) := by decide +kernel
theorem dX0_keyOf_3 : decode cX0_keyOf 3 = .ok (.istore_n 3, 1) := by decide +kernel
theorem dX0_keyOf_4 : decode cX0_keyOf 4 = .ok (.iload_n 3, 1) := by decide +kernel
theorem dX0_keyOf_5 : decode cX0_keyOf 5 = .ok (.iload_n 1, 1) := by decide +kernel
theorem dX0_keyOf_6 : decode cX0_keyOf 6 = .ok (.if_icmp .ge 23, 3) := by decide +kernel
theorem dX0_keyOf_9 : decode cX0_keyOf 9 = .ok (.iload_n 2, 1) := by decide +kernel
theorem dX0_keyOf_10 : decode cX0_keyOf 10 = .ok (.aload_n 0, 1) := by decide +kernel
theorem dX0_keyOf_11 : decode cX0_keyOf 11 = .ok (.getfield 7, 3) := by decide +kernel
theorem dX0_keyOf_14 : decode cX0_keyOf 14 = .ok (.iload_n 3, 1) := by decide +kernel
theorem dX0_keyOf_15 : decode cX0_keyOf 15 = .ok (.iaload, 1) := by decide +kernel
theorem dX0_keyOf_16 : decode cX0_keyOf 16 = .ok (.iload_n 3, 1) := by decide +kernel
theorem dX0_keyOf_17 : decode cX0_keyOf 17 = .ok (.invokestatic 45, 3) := by decide +kernel
theorem dX0_keyOf_20 : decode cX0_keyOf 20 = .ok (.imul, 1) := by decide +kernel
theorem dX0_keyOf_21 : decode cX0_keyOf 21 = .ok (.iadd, 1) := by decide +kernel
theorem dX0_keyOf_22 : decode cX0_keyOf 22 = .ok (.istore_n 2, 1) := by decide +kernel
theorem dX0_keyOf_23 : decode cX0_keyOf 23 = .ok (.iinc 3 1, 3) := by decide +kernel
theorem dX0_keyOf_26 : decode cX0_keyOf 26 = .ok (.goto (-22), 3) := by decide +kernel
theorem dX0_keyOf_29 : decode cX0_keyOf 29 = .ok (.iload_n 2, 1) := by decide +kernel
theorem dX0_keyOf_30 : decode cX0_keyOf 30 = .ok (.ireturn, 1) := by decide +kernel
abbrev cX0_unit : ByteArray := prog_1_method_6_code
def yX0_unit : MethodName := ⟨RX0, "unit", "(I)I"⟩
theorem dX0_unit_0 : decode cX0_unit 0 = .ok (.iconst 1, 1) := by decide +kernel
theorem dX0_unit_1 : decode cX0_unit 1 = .ok (.bipush 14, 2) := by decide +kernel
theorem dX0_unit_3 : decode cX0_unit 3 = .ok (.bipush 7, 2) := by decide +kernel
theorem dX0_unit_5 : decode cX0_unit 5 = .ok (.iload_n 0, 1) := by decide +kernel
theorem dX0_unit_6 : decode cX0_unit 6 = .ok (.imul, 1) := by decide +kernel
theorem dX0_unit_7 : decode cX0_unit 7 = .ok (.isub, 1) := by decide +kernel
theorem dX0_unit_8 : decode cX0_unit 8 = .ok (.ishl, 1) := by decide +kernel
theorem dX0_unit_9 : decode cX0_unit 9 = .ok (.ireturn, 1) := by decide +kernel
abbrev cX0_present : ByteArray := prog_1_method_12_code
def yX0_present : MethodName := ⟨RX0, "present", "(I)Z"⟩
theorem dX0_present_0 : decode cX0_present 0 = .ok (.aload_n 0, 1) := by decide +kernel
theorem dX0_present_1 : decode cX0_present 1 = .ok (.iload_n 1, 1) := by decide +kernel
theorem dX0_present_2 : decode cX0_present 2 = .ok (.invokevirtual 59, 3) := by decide +kernel
theorem dX0_present_5 : decode cX0_present 5 = .ok (.aload_n 0, 1) := by decide +kernel
theorem dX0_present_6 : decode cX0_present 6 = .ok (.invokevirtual 63, 3) := by decide +kernel
theorem dX0_present_9 : decode cX0_present 9 = .ok (.istore_n 2, 1) := by decide +kernel
theorem dX0_present_10 : decode cX0_present 10 = .ok (.iload_n 2, 1) := by decide +kernel
theorem dX0_present_11 : decode cX0_present 11 = .ok (.iload_n 1, 1) := by decide +kernel
theorem dX0_present_12 : decode cX0_present 12 = .ok (.if_icmp .ne 7, 3) := by decide +kernel
theorem dX0_present_15 : decode cX0_present 15 = .ok (.iconst 1, 1) := by decide +kernel
theorem dX0_present_16 : decode cX0_present 16 = .ok (.goto 4, 3) := by decide +kernel
theorem dX0_present_19 : decode cX0_present 19 = .ok (.iconst 0, 1) := by decide +kernel
theorem dX0_present_20 : decode cX0_present 20 = .ok (.ireturn, 1) := by decide +kernel
abbrev cX0_seek : ByteArray := prog_1_method_10_code
def yX0_seek : MethodName := ⟨RX0, "seek", "(I)V"⟩
theorem dX0_seek_0 : decode cX0_seek 0 = .ok (.iconst 0, 1) := by decide +kernel
theorem dX0_seek_1 : decode cX0_seek 1 = .ok (.istore_n 2, 1) := by decide +kernel
theorem dX0_seek_2 : decode cX0_seek 2 = .ok (.aload_n 0, 1) := by decide +kernel
theorem dX0_seek_3 : decode cX0_seek 3 = .ok (.getfield 34, 3) := by decide +kernel
theorem dX0_seek_6 : decode cX0_seek 6 = .ok (.iconst 1, 1) := by decide +kernel
theorem dX0_seek_7 : decode cX0_seek 7 = .ok (.isub, 1) := by decide +kernel
theorem dX0_seek_8 : decode cX0_seek 8 = .ok (.istore_n 3, 1) := by decide +kernel
theorem dX0_seek_9 : decode cX0_seek 9 = .ok (.iload_n 2, 1) := by decide +kernel
theorem dX0_seek_10 : decode cX0_seek 10 = .ok (.iload_n 3, 1) := by decide +kernel
theorem dX0_seek_11 : decode cX0_seek 11 = .ok (.if_icmp .ge 40, 3) := by decide +kernel
theorem dX0_seek_14 : decode cX0_seek 14 = .ok (.iload_n 2, 1) := by decide +kernel
theorem dX0_seek_15 : decode cX0_seek 15 = .ok (.iload_n 3, 1) := by decide +kernel
theorem dX0_seek_16 : decode cX0_seek 16 = .ok (.iadd, 1) := by decide +kernel
theorem dX0_seek_17 : decode cX0_seek 17 = .ok (.iconst 1, 1) := by decide +kernel
theorem dX0_seek_18 : decode cX0_seek 18 = .ok (.iadd, 1) := by decide +kernel
theorem dX0_seek_19 : decode cX0_seek 19 = .ok (.iconst 2, 1) := by decide +kernel
theorem dX0_seek_20 : decode cX0_seek 20 = .ok (.idiv, 1) := by decide +kernel
theorem dX0_seek_21 : decode cX0_seek 21 = .ok (.istore 4, 2) := by decide +kernel
theorem dX0_seek_23 : decode cX0_seek 23 = .ok (.aload_n 0, 1) := by decide +kernel
theorem dX0_seek_24 : decode cX0_seek 24 = .ok (.getfield 16, 3) := by decide +kernel
theorem dX0_seek_27 : decode cX0_seek 27 = .ok (.iload 4, 2) := by decide +kernel
theorem dX0_seek_29 : decode cX0_seek 29 = .ok (.bipush 8, 2) := by decide +kernel
theorem dX0_seek_31 : decode cX0_seek 31 = .ok (.imul, 1) := by decide +kernel
theorem dX0_seek_32 : decode cX0_seek 32 = .ok (.iaload, 1) := by decide +kernel
theorem dX0_seek_33 : decode cX0_seek 33 = .ok (.iload_n 1, 1) := by decide +kernel
theorem dX0_seek_34 : decode cX0_seek 34 = .ok (.if_icmp .gt 9, 3) := by decide +kernel
theorem dX0_seek_37 : decode cX0_seek 37 = .ok (.iload 4, 2) := by decide +kernel
theorem dX0_seek_39 : decode cX0_seek 39 = .ok (.istore_n 2, 1) := by decide +kernel
theorem dX0_seek_40 : decode cX0_seek 40 = .ok (.goto 8, 3) := by decide +kernel
theorem dX0_seek_43 : decode cX0_seek 43 = .ok (.iload 4, 2) := by decide +kernel
theorem dX0_seek_45 : decode cX0_seek 45 = .ok (.iconst 1, 1) := by decide +kernel
theorem dX0_seek_46 : decode cX0_seek 46 = .ok (.isub, 1) := by decide +kernel
theorem dX0_seek_47 : decode cX0_seek 47 = .ok (.istore_n 3, 1) := by decide +kernel
theorem dX0_seek_48 : decode cX0_seek 48 = .ok (.goto (-39), 3) := by decide +kernel
theorem dX0_seek_51 : decode cX0_seek 51 = .ok (.aload_n 0, 1) := by decide +kernel
theorem dX0_seek_52 : decode cX0_seek 52 = .ok (.iload_n 2, 1) := by decide +kernel
theorem dX0_seek_53 : decode cX0_seek 53 = .ok (.putfield 53, 3) := by decide +kernel
theorem dX0_seek_56 : decode cX0_seek 56 = .ok (.aload_n 0, 1) := by decide +kernel
theorem dX0_seek_57 : decode cX0_seek 57 = .ok (.iconst 0, 1) := by decide +kernel
theorem dX0_seek_58 : decode cX0_seek 58 = .ok (.putfield 56, 3) := by decide +kernel
theorem dX0_seek_61 : decode cX0_seek 61 = .ok (.aload_n 0, 1) := by decide +kernel
theorem dX0_seek_62 : decode cX0_seek 62 = .ok (.getfield 56, 3) := by decide +kernel
theorem dX0_seek_65 : decode cX0_seek 65 = .ok (.aload_n 0, 1) := by decide +kernel
theorem dX0_seek_66 : decode cX0_seek 66 = .ok (.getfield 13, 3) := by decide +kernel
theorem dX0_seek_69 : decode cX0_seek 69 = .ok (.aload_n 0, 1) := by decide +kernel
theorem dX0_seek_70 : decode cX0_seek 70 = .ok (.getfield 53, 3) := by decide +kernel
theorem dX0_seek_73 : decode cX0_seek 73 = .ok (.iaload, 1) := by decide +kernel
theorem dX0_seek_74 : decode cX0_seek 74 = .ok (.if_icmp .ge 37, 3) := by decide +kernel
theorem dX0_seek_77 : decode cX0_seek 77 = .ok (.aload_n 0, 1) := by decide +kernel
theorem dX0_seek_78 : decode cX0_seek 78 = .ok (.getfield 16, 3) := by decide +kernel
theorem dX0_seek_81 : decode cX0_seek 81 = .ok (.aload_n 0, 1) := by decide +kernel
theorem dX0_seek_82 : decode cX0_seek 82 = .ok (.getfield 53, 3) := by decide +kernel
theorem dX0_seek_85 : decode cX0_seek 85 = .ok (.bipush 8, 2) := by decide +kernel
theorem dX0_seek_87 : decode cX0_seek 87 = .ok (.imul, 1) := by decide +kernel
theorem dX0_seek_88 : decode cX0_seek 88 = .ok (.aload_n 0, 1) := by decide +kernel
theorem dX0_seek_89 : decode cX0_seek 89 = .ok (.getfield 56, 3) := by decide +kernel
theorem dX0_seek_92 : decode cX0_seek 92 = .ok (.iadd, 1) := by decide +kernel
theorem dX0_seek_93 : decode cX0_seek 93 = .ok (.iaload, 1) := by decide +kernel
theorem dX0_seek_94 : decode cX0_seek 94 = .ok (.iload_n 1, 1) := by decide +kernel
theorem dX0_seek_95 : decode cX0_seek 95 = .ok (.if_icmp .ge 16, 3) := by decide +kernel
theorem dX0_seek_98 : decode cX0_seek 98 = .ok (.aload_n 0, 1) := by decide +kernel
theorem dX0_seek_99 : decode cX0_seek 99 = .ok (.dup, 1) := by decide +kernel
theorem dX0_seek_100 : decode cX0_seek 100 = .ok (.getfield 56, 3) := by decide +kernel
theorem dX0_seek_103 : decode cX0_seek 103 = .ok (.iconst 1, 1) := by decide +kernel
theorem dX0_seek_104 : decode cX0_seek 104 = .ok (.iadd, 1) := by decide +kernel
theorem dX0_seek_105 : decode cX0_seek 105 = .ok (.putfield 56, 3) := by decide +kernel
theorem dX0_seek_108 : decode cX0_seek 108 = .ok (.goto (-47), 3) := by decide +kernel
theorem dX0_seek_111 : decode cX0_seek 111 = .ok (.aload_n 0, 1) := by decide +kernel
theorem dX0_seek_112 : decode cX0_seek 112 = .ok (.getfield 56, 3) := by decide +kernel
theorem dX0_seek_115 : decode cX0_seek 115 = .ok (.aload_n 0, 1) := by decide +kernel
theorem dX0_seek_116 : decode cX0_seek 116 = .ok (.getfield 13, 3) := by decide +kernel
theorem dX0_seek_119 : decode cX0_seek 119 = .ok (.aload_n 0, 1) := by decide +kernel
theorem dX0_seek_120 : decode cX0_seek 120 = .ok (.getfield 53, 3) := by decide +kernel
theorem dX0_seek_123 : decode cX0_seek 123 = .ok (.iaload, 1) := by decide +kernel
theorem dX0_seek_124 : decode cX0_seek 124 = .ok (.if_icmp .ne 31, 3) := by decide +kernel
theorem dX0_seek_127 : decode cX0_seek 127 = .ok (.aload_n 0, 1) := by decide +kernel
theorem dX0_seek_128 : decode cX0_seek 128 = .ok (.getfield 53, 3) := by decide +kernel
theorem dX0_seek_131 : decode cX0_seek 131 = .ok (.iconst 1, 1) := by decide +kernel
theorem dX0_seek_132 : decode cX0_seek 132 = .ok (.iadd, 1) := by decide +kernel
theorem dX0_seek_133 : decode cX0_seek 133 = .ok (.aload_n 0, 1) := by decide +kernel
theorem dX0_seek_134 : decode cX0_seek 134 = .ok (.getfield 34, 3) := by decide +kernel
theorem dX0_seek_137 : decode cX0_seek 137 = .ok (.if_icmp .ge 18, 3) := by decide +kernel
theorem dX0_seek_140 : decode cX0_seek 140 = .ok (.aload_n 0, 1) := by decide +kernel
theorem dX0_seek_141 : decode cX0_seek 141 = .ok (.dup, 1) := by decide +kernel
theorem dX0_seek_142 : decode cX0_seek 142 = .ok (.getfield 53, 3) := by decide +kernel
theorem dX0_seek_145 : decode cX0_seek 145 = .ok (.iconst 1, 1) := by decide +kernel
theorem dX0_seek_146 : decode cX0_seek 146 = .ok (.iadd, 1) := by decide +kernel
theorem dX0_seek_147 : decode cX0_seek 147 = .ok (.putfield 53, 3) := by decide +kernel
theorem dX0_seek_150 : decode cX0_seek 150 = .ok (.aload_n 0, 1) := by decide +kernel
theorem dX0_seek_151 : decode cX0_seek 151 = .ok (.iconst 0, 1) := by decide +kernel
theorem dX0_seek_152 : decode cX0_seek 152 = .ok (.putfield 56, 3) := by decide +kernel
theorem dX0_seek_155 : decode cX0_seek 155 = .ok (.return_, 1) := by decide +kernel
abbrev cX0_found : ByteArray := prog_1_method_11_code
def yX0_found : MethodName := ⟨RX0, "found", "()I"⟩
theorem dX0_found_0 : decode cX0_found 0 = .ok (.aload_n 0, 1) := by decide +kernel
theorem dX0_found_1 : decode cX0_found 1 = .ok (.getfield 56, 3) := by decide +kernel
theorem dX0_found_4 : decode cX0_found 4 = .ok (.aload_n 0, 1) := by decide +kernel
theorem dX0_found_5 : decode cX0_found 5 = .ok (.getfield 13, 3) := by decide +kernel
theorem dX0_found_8 : decode cX0_found 8 = .ok (.aload_n 0, 1) := by decide +kernel
theorem dX0_found_9 : decode cX0_found 9 = .ok (.getfield 53, 3) := by decide +kernel
theorem dX0_found_12 : decode cX0_found 12 = .ok (.iaload, 1) := by decide +kernel
theorem dX0_found_13 : decode cX0_found 13 = .ok (.if_icmp .ge 23, 3) := by decide +kernel
theorem dX0_found_16 : decode cX0_found 16 = .ok (.aload_n 0, 1) := by decide +kernel
theorem dX0_found_17 : decode cX0_found 17 = .ok (.getfield 16, 3) := by decide +kernel
theorem dX0_found_20 : decode cX0_found 20 = .ok (.aload_n 0, 1) := by decide +kernel
theorem dX0_found_21 : decode cX0_found 21 = .ok (.getfield 53, 3) := by decide +kernel
theorem dX0_found_24 : decode cX0_found 24 = .ok (.bipush 8, 2) := by decide +kernel
theorem dX0_found_26 : decode cX0_found 26 = .ok (.imul, 1) := by decide +kernel
theorem dX0_found_27 : decode cX0_found 27 = .ok (.aload_n 0, 1) := by decide +kernel
theorem dX0_found_28 : decode cX0_found 28 = .ok (.getfield 56, 3) := by decide +kernel
theorem dX0_found_31 : decode cX0_found 31 = .ok (.iadd, 1) := by decide +kernel
theorem dX0_found_32 : decode cX0_found 32 = .ok (.iaload, 1) := by decide +kernel
theorem dX0_found_33 : decode cX0_found 33 = .ok (.goto 5, 3) := by decide +kernel
theorem dX0_found_36 : decode cX0_found 36 = .ok (.ldc 49, 2) := by decide +kernel
theorem dX0_found_38 : decode cX0_found 38 = .ok (.ireturn, 1) := by decide +kernel
abbrev cX0_put : ByteArray := prog_1_method_20_code
def yX0_put : MethodName := ⟨RX0, "put", "(II)V"⟩
theorem dX0_put_0 : decode cX0_put 0 = .ok (.aload_n 0, 1) := by decide +kernel
theorem dX0_put_1 : decode cX0_put 1 = .ok (.iload_n 1, 1) := by decide +kernel
theorem dX0_put_2 : decode cX0_put 2 = .ok (.invokevirtual 83, 3) := by decide +kernel
theorem dX0_put_5 : decode cX0_put 5 = .ok (.istore_n 3, 1) := by decide +kernel
theorem dX0_put_6 : decode cX0_put 6 = .ok (.iload_n 3, 1) := by decide +kernel
theorem dX0_put_7 : decode cX0_put 7 = .ok (.ifCond .eq 24, 3) := by decide +kernel
theorem dX0_put_10 : decode cX0_put 10 = .ok (.aload_n 0, 1) := by decide +kernel
theorem dX0_put_11 : decode cX0_put 11 = .ok (.getfield 19, 3) := by decide +kernel
theorem dX0_put_14 : decode cX0_put 14 = .ok (.aload_n 0, 1) := by decide +kernel
theorem dX0_put_15 : decode cX0_put 15 = .ok (.getfield 53, 3) := by decide +kernel
theorem dX0_put_18 : decode cX0_put 18 = .ok (.bipush 8, 2) := by decide +kernel
theorem dX0_put_20 : decode cX0_put 20 = .ok (.imul, 1) := by decide +kernel
theorem dX0_put_21 : decode cX0_put 21 = .ok (.aload_n 0, 1) := by decide +kernel
theorem dX0_put_22 : decode cX0_put 22 = .ok (.getfield 56, 3) := by decide +kernel
theorem dX0_put_25 : decode cX0_put 25 = .ok (.iadd, 1) := by decide +kernel
theorem dX0_put_26 : decode cX0_put 26 = .ok (.iload_n 2, 1) := by decide +kernel
theorem dX0_put_27 : decode cX0_put 27 = .ok (.iastore, 1) := by decide +kernel
theorem dX0_put_28 : decode cX0_put 28 = .ok (.goto 9, 3) := by decide +kernel
theorem dX0_put_31 : decode cX0_put 31 = .ok (.aload_n 0, 1) := by decide +kernel
theorem dX0_put_32 : decode cX0_put 32 = .ok (.iload_n 1, 1) := by decide +kernel
theorem dX0_put_33 : decode cX0_put 33 = .ok (.iload_n 2, 1) := by decide +kernel
theorem dX0_put_34 : decode cX0_put 34 = .ok (.invokevirtual 86, 3) := by decide +kernel
theorem dX0_put_37 : decode cX0_put 37 = .ok (.return_, 1) := by decide +kernel
abbrev cX0_insert : ByteArray := prog_1_method_18_code
def yX0_insert : MethodName := ⟨RX0, "insert", "(II)V"⟩
theorem dX0_insert_0 : decode cX0_insert 0 = .ok (.aload_n 0, 1) := by decide +kernel
theorem dX0_insert_1 : decode cX0_insert 1 = .ok (.iload_n 1, 1) := by decide +kernel
theorem dX0_insert_2 : decode cX0_insert 2 = .ok (.invokevirtual 77, 3) := by decide +kernel
theorem dX0_insert_5 : decode cX0_insert 5 = .ok (.aload_n 0, 1) := by decide +kernel
theorem dX0_insert_6 : decode cX0_insert 6 = .ok (.getfield 13, 3) := by decide +kernel
theorem dX0_insert_9 : decode cX0_insert 9 = .ok (.aload_n 0, 1) := by decide +kernel
theorem dX0_insert_10 : decode cX0_insert 10 = .ok (.getfield 53, 3) := by decide +kernel
theorem dX0_insert_13 : decode cX0_insert 13 = .ok (.iaload, 1) := by decide +kernel
theorem dX0_insert_14 : decode cX0_insert 14 = .ok (.istore_n 3, 1) := by decide +kernel
theorem dX0_insert_15 : decode cX0_insert 15 = .ok (.iload_n 3, 1) := by decide +kernel
theorem dX0_insert_16 : decode cX0_insert 16 = .ok (.aload_n 0, 1) := by decide +kernel
theorem dX0_insert_17 : decode cX0_insert 17 = .ok (.getfield 56, 3) := by decide +kernel
theorem dX0_insert_20 : decode cX0_insert 20 = .ok (.if_icmp .le 69, 3) := by decide +kernel
theorem dX0_insert_23 : decode cX0_insert 23 = .ok (.aload_n 0, 1) := by decide +kernel
theorem dX0_insert_24 : decode cX0_insert 24 = .ok (.getfield 16, 3) := by decide +kernel
theorem dX0_insert_27 : decode cX0_insert 27 = .ok (.aload_n 0, 1) := by decide +kernel
theorem dX0_insert_28 : decode cX0_insert 28 = .ok (.getfield 53, 3) := by decide +kernel
theorem dX0_insert_31 : decode cX0_insert 31 = .ok (.bipush 8, 2) := by decide +kernel
theorem dX0_insert_33 : decode cX0_insert 33 = .ok (.imul, 1) := by decide +kernel
theorem dX0_insert_34 : decode cX0_insert 34 = .ok (.iload_n 3, 1) := by decide +kernel
theorem dX0_insert_35 : decode cX0_insert 35 = .ok (.iadd, 1) := by decide +kernel
theorem dX0_insert_36 : decode cX0_insert 36 = .ok (.aload_n 0, 1) := by decide +kernel
theorem dX0_insert_37 : decode cX0_insert 37 = .ok (.getfield 16, 3) := by decide +kernel
theorem dX0_insert_40 : decode cX0_insert 40 = .ok (.aload_n 0, 1) := by decide +kernel
theorem dX0_insert_41 : decode cX0_insert 41 = .ok (.getfield 53, 3) := by decide +kernel
theorem dX0_insert_44 : decode cX0_insert 44 = .ok (.bipush 8, 2) := by decide +kernel
theorem dX0_insert_46 : decode cX0_insert 46 = .ok (.imul, 1) := by decide +kernel
theorem dX0_insert_47 : decode cX0_insert 47 = .ok (.iload_n 3, 1) := by decide +kernel
theorem dX0_insert_48 : decode cX0_insert 48 = .ok (.iadd, 1) := by decide +kernel
theorem dX0_insert_49 : decode cX0_insert 49 = .ok (.iconst 1, 1) := by decide +kernel
theorem dX0_insert_50 : decode cX0_insert 50 = .ok (.isub, 1) := by decide +kernel
theorem dX0_insert_51 : decode cX0_insert 51 = .ok (.iaload, 1) := by decide +kernel
theorem dX0_insert_52 : decode cX0_insert 52 = .ok (.iastore, 1) := by decide +kernel
theorem dX0_insert_53 : decode cX0_insert 53 = .ok (.aload_n 0, 1) := by decide +kernel
theorem dX0_insert_54 : decode cX0_insert 54 = .ok (.getfield 19, 3) := by decide +kernel
theorem dX0_insert_57 : decode cX0_insert 57 = .ok (.aload_n 0, 1) := by decide +kernel
theorem dX0_insert_58 : decode cX0_insert 58 = .ok (.getfield 53, 3) := by decide +kernel
theorem dX0_insert_61 : decode cX0_insert 61 = .ok (.bipush 8, 2) := by decide +kernel
theorem dX0_insert_63 : decode cX0_insert 63 = .ok (.imul, 1) := by decide +kernel
theorem dX0_insert_64 : decode cX0_insert 64 = .ok (.iload_n 3, 1) := by decide +kernel
theorem dX0_insert_65 : decode cX0_insert 65 = .ok (.iadd, 1) := by decide +kernel
theorem dX0_insert_66 : decode cX0_insert 66 = .ok (.aload_n 0, 1) := by decide +kernel
theorem dX0_insert_67 : decode cX0_insert 67 = .ok (.getfield 19, 3) := by decide +kernel
theorem dX0_insert_70 : decode cX0_insert 70 = .ok (.aload_n 0, 1) := by decide +kernel
theorem dX0_insert_71 : decode cX0_insert 71 = .ok (.getfield 53, 3) := by decide +kernel
theorem dX0_insert_74 : decode cX0_insert 74 = .ok (.bipush 8, 2) := by decide +kernel
theorem dX0_insert_76 : decode cX0_insert 76 = .ok (.imul, 1) := by decide +kernel
theorem dX0_insert_77 : decode cX0_insert 77 = .ok (.iload_n 3, 1) := by decide +kernel
theorem dX0_insert_78 : decode cX0_insert 78 = .ok (.iadd, 1) := by decide +kernel
theorem dX0_insert_79 : decode cX0_insert 79 = .ok (.iconst 1, 1) := by decide +kernel
theorem dX0_insert_80 : decode cX0_insert 80 = .ok (.isub, 1) := by decide +kernel
theorem dX0_insert_81 : decode cX0_insert 81 = .ok (.iaload, 1) := by decide +kernel
theorem dX0_insert_82 : decode cX0_insert 82 = .ok (.iastore, 1) := by decide +kernel
theorem dX0_insert_83 : decode cX0_insert 83 = .ok (.iinc 3 (-1), 3) := by decide +kernel
theorem dX0_insert_86 : decode cX0_insert 86 = .ok (.goto (-71), 3) := by decide +kernel
theorem dX0_insert_89 : decode cX0_insert 89 = .ok (.aload_n 0, 1) := by decide +kernel
theorem dX0_insert_90 : decode cX0_insert 90 = .ok (.getfield 16, 3) := by decide +kernel
theorem dX0_insert_93 : decode cX0_insert 93 = .ok (.aload_n 0, 1) := by decide +kernel
theorem dX0_insert_94 : decode cX0_insert 94 = .ok (.getfield 53, 3) := by decide +kernel
theorem dX0_insert_97 : decode cX0_insert 97 = .ok (.bipush 8, 2) := by decide +kernel
theorem dX0_insert_99 : decode cX0_insert 99 = .ok (.imul, 1) := by decide +kernel
theorem dX0_insert_100 : decode cX0_insert 100 = .ok (.aload_n 0, 1) := by decide +kernel
theorem dX0_insert_101 : decode cX0_insert 101 = .ok (.getfield 56, 3) := by decide +kernel
theorem dX0_insert_104 : decode cX0_insert 104 = .ok (.iadd, 1) := by decide +kernel
theorem dX0_insert_105 : decode cX0_insert 105 = .ok (.iload_n 1, 1) := by decide +kernel
theorem dX0_insert_106 : decode cX0_insert 106 = .ok (.iastore, 1) := by decide +kernel
theorem dX0_insert_107 : decode cX0_insert 107 = .ok (.aload_n 0, 1) := by decide +kernel
theorem dX0_insert_108 : decode cX0_insert 108 = .ok (.getfield 19, 3) := by decide +kernel
theorem dX0_insert_111 : decode cX0_insert 111 = .ok (.aload_n 0, 1) := by decide +kernel
theorem dX0_insert_112 : decode cX0_insert 112 = .ok (.getfield 53, 3) := by decide +kernel
theorem dX0_insert_115 : decode cX0_insert 115 = .ok (.bipush 8, 2) := by decide +kernel
theorem dX0_insert_117 : decode cX0_insert 117 = .ok (.imul, 1) := by decide +kernel
theorem dX0_insert_118 : decode cX0_insert 118 = .ok (.aload_n 0, 1) := by decide +kernel
theorem dX0_insert_119 : decode cX0_insert 119 = .ok (.getfield 56, 3) := by decide +kernel
theorem dX0_insert_122 : decode cX0_insert 122 = .ok (.iadd, 1) := by decide +kernel
theorem dX0_insert_123 : decode cX0_insert 123 = .ok (.iload_n 2, 1) := by decide +kernel
theorem dX0_insert_124 : decode cX0_insert 124 = .ok (.iastore, 1) := by decide +kernel
theorem dX0_insert_125 : decode cX0_insert 125 = .ok (.aload_n 0, 1) := by decide +kernel
theorem dX0_insert_126 : decode cX0_insert 126 = .ok (.getfield 13, 3) := by decide +kernel
theorem dX0_insert_129 : decode cX0_insert 129 = .ok (.aload_n 0, 1) := by decide +kernel
theorem dX0_insert_130 : decode cX0_insert 130 = .ok (.getfield 53, 3) := by decide +kernel
theorem dX0_insert_133 : decode cX0_insert 133 = .ok (.dup2, 1) := by decide +kernel
theorem dX0_insert_134 : decode cX0_insert 134 = .ok (.iaload, 1) := by decide +kernel
theorem dX0_insert_135 : decode cX0_insert 135 = .ok (.iconst 1, 1) := by decide +kernel
theorem dX0_insert_136 : decode cX0_insert 136 = .ok (.iadd, 1) := by decide +kernel
theorem dX0_insert_137 : decode cX0_insert 137 = .ok (.iastore, 1) := by decide +kernel
theorem dX0_insert_138 : decode cX0_insert 138 = .ok (.aload_n 0, 1) := by decide +kernel
theorem dX0_insert_139 : decode cX0_insert 139 = .ok (.dup, 1) := by decide +kernel
theorem dX0_insert_140 : decode cX0_insert 140 = .ok (.getfield 80, 3) := by decide +kernel
theorem dX0_insert_143 : decode cX0_insert 143 = .ok (.iconst 1, 1) := by decide +kernel
theorem dX0_insert_144 : decode cX0_insert 144 = .ok (.iadd, 1) := by decide +kernel
theorem dX0_insert_145 : decode cX0_insert 145 = .ok (.putfield 80, 3) := by decide +kernel
theorem dX0_insert_148 : decode cX0_insert 148 = .ok (.return_, 1) := by decide +kernel
end
section
set_option maxRecDepth 100000
abbrev cX0_seekRoom : ByteArray := prog_1_method_17_code
def yX0_seekRoom : MethodName := ⟨RX0, "seekRoom", "(I)V"⟩
theorem dX0_seekRoom_0 : decode cX0_seekRoom 0 = .ok (.aload_n 0, 1) := by decide +kernel
theorem dX0_seekRoom_1 : decode cX0_seekRoom 1 = .ok (.getfield 34, 3) := by decide +kernel
theorem dX0_seekRoom_4 : decode cX0_seekRoom 4 = .ok (.bipush 32, 2) := by decide +kernel
theorem dX0_seekRoom_6 : decode cX0_seekRoom 6 = .ok (.if_icmp .lt 7, 3) := by decide +kernel
theorem dX0_seekRoom_9 : decode cX0_seekRoom 9 = .ok (.aload_n 0, 1) := by decide +kernel
theorem dX0_seekRoom_10 : decode cX0_seekRoom 10 = .ok (.invokevirtual 71, 3) := by decide +kernel
theorem dX0_seekRoom_13 : decode cX0_seekRoom 13 = .ok (.aload_n 0, 1) := by decide +kernel
theorem dX0_seekRoom_14 : decode cX0_seekRoom 14 = .ok (.iload_n 1, 1) := by decide +kernel
theorem dX0_seekRoom_15 : decode cX0_seekRoom 15 = .ok (.invokevirtual 59, 3) := by decide +kernel
theorem dX0_seekRoom_18 : decode cX0_seekRoom 18 = .ok (.aload_n 0, 1) := by decide +kernel
theorem dX0_seekRoom_19 : decode cX0_seekRoom 19 = .ok (.getfield 56, 3) := by decide +kernel
theorem dX0_seekRoom_22 : decode cX0_seekRoom 22 = .ok (.ifCond .ne 33, 3) := by decide +kernel
theorem dX0_seekRoom_25 : decode cX0_seekRoom 25 = .ok (.aload_n 0, 1) := by decide +kernel
theorem dX0_seekRoom_26 : decode cX0_seekRoom 26 = .ok (.getfield 53, 3) := by decide +kernel
theorem dX0_seekRoom_29 : decode cX0_seekRoom 29 = .ok (.ifCond .le 26, 3) := by decide +kernel
theorem dX0_seekRoom_32 : decode cX0_seekRoom 32 = .ok (.aload_n 0, 1) := by decide +kernel
theorem dX0_seekRoom_33 : decode cX0_seekRoom 33 = .ok (.dup, 1) := by decide +kernel
theorem dX0_seekRoom_34 : decode cX0_seekRoom 34 = .ok (.getfield 53, 3) := by decide +kernel
theorem dX0_seekRoom_37 : decode cX0_seekRoom 37 = .ok (.iconst 1, 1) := by decide +kernel
theorem dX0_seekRoom_38 : decode cX0_seekRoom 38 = .ok (.isub, 1) := by decide +kernel
theorem dX0_seekRoom_39 : decode cX0_seekRoom 39 = .ok (.putfield 53, 3) := by decide +kernel
theorem dX0_seekRoom_42 : decode cX0_seekRoom 42 = .ok (.aload_n 0, 1) := by decide +kernel
theorem dX0_seekRoom_43 : decode cX0_seekRoom 43 = .ok (.aload_n 0, 1) := by decide +kernel
theorem dX0_seekRoom_44 : decode cX0_seekRoom 44 = .ok (.getfield 13, 3) := by decide +kernel
theorem dX0_seekRoom_47 : decode cX0_seekRoom 47 = .ok (.aload_n 0, 1) := by decide +kernel
theorem dX0_seekRoom_48 : decode cX0_seekRoom 48 = .ok (.getfield 53, 3) := by decide +kernel
theorem dX0_seekRoom_51 : decode cX0_seekRoom 51 = .ok (.iaload, 1) := by decide +kernel
theorem dX0_seekRoom_52 : decode cX0_seekRoom 52 = .ok (.putfield 56, 3) := by decide +kernel
theorem dX0_seekRoom_55 : decode cX0_seekRoom 55 = .ok (.aload_n 0, 1) := by decide +kernel
theorem dX0_seekRoom_56 : decode cX0_seekRoom 56 = .ok (.getfield 13, 3) := by decide +kernel
theorem dX0_seekRoom_59 : decode cX0_seekRoom 59 = .ok (.aload_n 0, 1) := by decide +kernel
theorem dX0_seekRoom_60 : decode cX0_seekRoom 60 = .ok (.getfield 53, 3) := by decide +kernel
theorem dX0_seekRoom_63 : decode cX0_seekRoom 63 = .ok (.iaload, 1) := by decide +kernel
theorem dX0_seekRoom_64 : decode cX0_seekRoom 64 = .ok (.bipush 8, 2) := by decide +kernel
theorem dX0_seekRoom_66 : decode cX0_seekRoom 66 = .ok (.if_icmp .ge 4, 3) := by decide +kernel
theorem dX0_seekRoom_69 : decode cX0_seekRoom 69 = .ok (.return_, 1) := by decide +kernel
theorem dX0_seekRoom_70 : decode cX0_seekRoom 70 = .ok (.aload_n 0, 1) := by decide +kernel
theorem dX0_seekRoom_71 : decode cX0_seekRoom 71 = .ok (.aload_n 0, 1) := by decide +kernel
theorem dX0_seekRoom_72 : decode cX0_seekRoom 72 = .ok (.getfield 53, 3) := by decide +kernel
theorem dX0_seekRoom_75 : decode cX0_seekRoom 75 = .ok (.invokevirtual 74, 3) := by decide +kernel
theorem dX0_seekRoom_78 : decode cX0_seekRoom 78 = .ok (.aload_n 0, 1) := by decide +kernel
theorem dX0_seekRoom_79 : decode cX0_seekRoom 79 = .ok (.getfield 56, 3) := by decide +kernel
theorem dX0_seekRoom_82 : decode cX0_seekRoom 82 = .ok (.iconst 4, 1) := by decide +kernel
theorem dX0_seekRoom_83 : decode cX0_seekRoom 83 = .ok (.if_icmp .le 23, 3) := by decide +kernel
theorem dX0_seekRoom_86 : decode cX0_seekRoom 86 = .ok (.aload_n 0, 1) := by decide +kernel
theorem dX0_seekRoom_87 : decode cX0_seekRoom 87 = .ok (.dup, 1) := by decide +kernel
theorem dX0_seekRoom_88 : decode cX0_seekRoom 88 = .ok (.getfield 56, 3) := by decide +kernel
theorem dX0_seekRoom_91 : decode cX0_seekRoom 91 = .ok (.iconst 4, 1) := by decide +kernel
theorem dX0_seekRoom_92 : decode cX0_seekRoom 92 = .ok (.isub, 1) := by decide +kernel
theorem dX0_seekRoom_93 : decode cX0_seekRoom 93 = .ok (.putfield 56, 3) := by decide +kernel
theorem dX0_seekRoom_96 : decode cX0_seekRoom 96 = .ok (.aload_n 0, 1) := by decide +kernel
theorem dX0_seekRoom_97 : decode cX0_seekRoom 97 = .ok (.dup, 1) := by decide +kernel
theorem dX0_seekRoom_98 : decode cX0_seekRoom 98 = .ok (.getfield 53, 3) := by decide +kernel
theorem dX0_seekRoom_101 : decode cX0_seekRoom 101 = .ok (.iconst 1, 1) := by decide +kernel
theorem dX0_seekRoom_102 : decode cX0_seekRoom 102 = .ok (.iadd, 1) := by decide +kernel
theorem dX0_seekRoom_103 : decode cX0_seekRoom 103 = .ok (.putfield 53, 3) := by decide +kernel
theorem dX0_seekRoom_106 : decode cX0_seekRoom 106 = .ok (.return_, 1) := by decide +kernel
abbrev cX0_repack : ByteArray := prog_1_method_14_code
def yX0_repack : MethodName := ⟨RX0, "repack", "()V"⟩
theorem dX0_repack_0 : decode cX0_repack 0 = .ok (.iconst 0, 1) := by decide +kernel
theorem dX0_repack_1 : decode cX0_repack 1 = .ok (.istore_n 1, 1) := by decide +kernel
theorem dX0_repack_2 : decode cX0_repack 2 = .ok (.iconst 0, 1) := by decide +kernel
theorem dX0_repack_3 : decode cX0_repack 3 = .ok (.istore_n 2, 1) := by decide +kernel
theorem dX0_repack_4 : decode cX0_repack 4 = .ok (.iload_n 2, 1) := by decide +kernel
theorem dX0_repack_5 : decode cX0_repack 5 = .ok (.aload_n 0, 1) := by decide +kernel
theorem dX0_repack_6 : decode cX0_repack 6 = .ok (.getfield 34, 3) := by decide +kernel
theorem dX0_repack_9 : decode cX0_repack 9 = .ok (.if_icmp .ge 64, 3) := by decide +kernel
theorem dX0_repack_12 : decode cX0_repack 12 = .ok (.iconst 0, 1) := by decide +kernel
theorem dX0_repack_13 : decode cX0_repack 13 = .ok (.istore_n 3, 1) := by decide +kernel
theorem dX0_repack_14 : decode cX0_repack 14 = .ok (.iload_n 3, 1) := by decide +kernel
theorem dX0_repack_15 : decode cX0_repack 15 = .ok (.aload_n 0, 1) := by decide +kernel
theorem dX0_repack_16 : decode cX0_repack 16 = .ok (.getfield 13, 3) := by decide +kernel
theorem dX0_repack_19 : decode cX0_repack 19 = .ok (.iload_n 2, 1) := by decide +kernel
theorem dX0_repack_20 : decode cX0_repack 20 = .ok (.iaload, 1) := by decide +kernel
theorem dX0_repack_21 : decode cX0_repack 21 = .ok (.if_icmp .ge 46, 3) := by decide +kernel
theorem dX0_repack_24 : decode cX0_repack 24 = .ok (.aload_n 0, 1) := by decide +kernel
theorem dX0_repack_25 : decode cX0_repack 25 = .ok (.getfield 28, 3) := by decide +kernel
theorem dX0_repack_28 : decode cX0_repack 28 = .ok (.iload_n 1, 1) := by decide +kernel
theorem dX0_repack_29 : decode cX0_repack 29 = .ok (.aload_n 0, 1) := by decide +kernel
theorem dX0_repack_30 : decode cX0_repack 30 = .ok (.getfield 16, 3) := by decide +kernel
theorem dX0_repack_33 : decode cX0_repack 33 = .ok (.iload_n 2, 1) := by decide +kernel
theorem dX0_repack_34 : decode cX0_repack 34 = .ok (.bipush 8, 2) := by decide +kernel
theorem dX0_repack_36 : decode cX0_repack 36 = .ok (.imul, 1) := by decide +kernel
theorem dX0_repack_37 : decode cX0_repack 37 = .ok (.iload_n 3, 1) := by decide +kernel
theorem dX0_repack_38 : decode cX0_repack 38 = .ok (.iadd, 1) := by decide +kernel
theorem dX0_repack_39 : decode cX0_repack 39 = .ok (.iaload, 1) := by decide +kernel
theorem dX0_repack_40 : decode cX0_repack 40 = .ok (.iastore, 1) := by decide +kernel
theorem dX0_repack_41 : decode cX0_repack 41 = .ok (.aload_n 0, 1) := by decide +kernel
theorem dX0_repack_42 : decode cX0_repack 42 = .ok (.getfield 31, 3) := by decide +kernel
theorem dX0_repack_45 : decode cX0_repack 45 = .ok (.iload_n 1, 1) := by decide +kernel
theorem dX0_repack_46 : decode cX0_repack 46 = .ok (.aload_n 0, 1) := by decide +kernel
theorem dX0_repack_47 : decode cX0_repack 47 = .ok (.getfield 19, 3) := by decide +kernel
theorem dX0_repack_50 : decode cX0_repack 50 = .ok (.iload_n 2, 1) := by decide +kernel
theorem dX0_repack_51 : decode cX0_repack 51 = .ok (.bipush 8, 2) := by decide +kernel
theorem dX0_repack_53 : decode cX0_repack 53 = .ok (.imul, 1) := by decide +kernel
theorem dX0_repack_54 : decode cX0_repack 54 = .ok (.iload_n 3, 1) := by decide +kernel
theorem dX0_repack_55 : decode cX0_repack 55 = .ok (.iadd, 1) := by decide +kernel
theorem dX0_repack_56 : decode cX0_repack 56 = .ok (.iaload, 1) := by decide +kernel
theorem dX0_repack_57 : decode cX0_repack 57 = .ok (.iastore, 1) := by decide +kernel
theorem dX0_repack_58 : decode cX0_repack 58 = .ok (.iinc 1 1, 3) := by decide +kernel
theorem dX0_repack_61 : decode cX0_repack 61 = .ok (.iinc 3 1, 3) := by decide +kernel
theorem dX0_repack_64 : decode cX0_repack 64 = .ok (.goto (-50), 3) := by decide +kernel
theorem dX0_repack_67 : decode cX0_repack 67 = .ok (.iinc 2 1, 3) := by decide +kernel
theorem dX0_repack_70 : decode cX0_repack 70 = .ok (.goto (-66), 3) := by decide +kernel
theorem dX0_repack_73 : decode cX0_repack 73 = .ok (.aload_n 0, 1) := by decide +kernel
theorem dX0_repack_74 : decode cX0_repack 74 = .ok (.iload_n 1, 1) := by decide +kernel
theorem dX0_repack_75 : decode cX0_repack 75 = .ok (.ifCond .ne 7, 3) := by decide +kernel
theorem dX0_repack_78 : decode cX0_repack 78 = .ok (.iconst 1, 1) := by decide +kernel
theorem dX0_repack_79 : decode cX0_repack 79 = .ok (.goto 9, 3) := by decide +kernel
theorem dX0_repack_82 : decode cX0_repack 82 = .ok (.iload_n 1, 1) := by decide +kernel
theorem dX0_repack_83 : decode cX0_repack 83 = .ok (.iconst 5, 1) := by decide +kernel
theorem dX0_repack_84 : decode cX0_repack 84 = .ok (.iadd, 1) := by decide +kernel
theorem dX0_repack_85 : decode cX0_repack 85 = .ok (.bipush 6, 2) := by decide +kernel
theorem dX0_repack_87 : decode cX0_repack 87 = .ok (.idiv, 1) := by decide +kernel
theorem dX0_repack_88 : decode cX0_repack 88 = .ok (.putfield 34, 3) := by decide +kernel
theorem dX0_repack_91 : decode cX0_repack 91 = .ok (.iconst 0, 1) := by decide +kernel
theorem dX0_repack_92 : decode cX0_repack 92 = .ok (.istore_n 2, 1) := by decide +kernel
theorem dX0_repack_93 : decode cX0_repack 93 = .ok (.iload_n 2, 1) := by decide +kernel
theorem dX0_repack_94 : decode cX0_repack 94 = .ok (.aload_n 0, 1) := by decide +kernel
theorem dX0_repack_95 : decode cX0_repack 95 = .ok (.getfield 34, 3) := by decide +kernel
theorem dX0_repack_98 : decode cX0_repack 98 = .ok (.if_icmp .ge 16, 3) := by decide +kernel
theorem dX0_repack_101 : decode cX0_repack 101 = .ok (.aload_n 0, 1) := by decide +kernel
theorem dX0_repack_102 : decode cX0_repack 102 = .ok (.getfield 13, 3) := by decide +kernel
theorem dX0_repack_105 : decode cX0_repack 105 = .ok (.iload_n 2, 1) := by decide +kernel
theorem dX0_repack_106 : decode cX0_repack 106 = .ok (.iconst 0, 1) := by decide +kernel
theorem dX0_repack_107 : decode cX0_repack 107 = .ok (.iastore, 1) := by decide +kernel
theorem dX0_repack_108 : decode cX0_repack 108 = .ok (.iinc 2 1, 3) := by decide +kernel
theorem dX0_repack_111 : decode cX0_repack 111 = .ok (.goto (-18), 3) := by decide +kernel
theorem dX0_repack_114 : decode cX0_repack 114 = .ok (.iconst 0, 1) := by decide +kernel
theorem dX0_repack_115 : decode cX0_repack 115 = .ok (.istore_n 2, 1) := by decide +kernel
theorem dX0_repack_116 : decode cX0_repack 116 = .ok (.iload_n 2, 1) := by decide +kernel
theorem dX0_repack_117 : decode cX0_repack 117 = .ok (.iload_n 1, 1) := by decide +kernel
theorem dX0_repack_118 : decode cX0_repack 118 = .ok (.if_icmp .ge 59, 3) := by decide +kernel
theorem dX0_repack_121 : decode cX0_repack 121 = .ok (.iload_n 2, 1) := by decide +kernel
theorem dX0_repack_122 : decode cX0_repack 122 = .ok (.bipush 6, 2) := by decide +kernel
theorem dX0_repack_124 : decode cX0_repack 124 = .ok (.idiv, 1) := by decide +kernel
theorem dX0_repack_125 : decode cX0_repack 125 = .ok (.bipush 8, 2) := by decide +kernel
theorem dX0_repack_127 : decode cX0_repack 127 = .ok (.imul, 1) := by decide +kernel
theorem dX0_repack_128 : decode cX0_repack 128 = .ok (.iload_n 2, 1) := by decide +kernel
theorem dX0_repack_129 : decode cX0_repack 129 = .ok (.bipush 6, 2) := by decide +kernel
theorem dX0_repack_131 : decode cX0_repack 131 = .ok (.irem, 1) := by decide +kernel
theorem dX0_repack_132 : decode cX0_repack 132 = .ok (.iadd, 1) := by decide +kernel
theorem dX0_repack_133 : decode cX0_repack 133 = .ok (.istore_n 3, 1) := by decide +kernel
theorem dX0_repack_134 : decode cX0_repack 134 = .ok (.aload_n 0, 1) := by decide +kernel
theorem dX0_repack_135 : decode cX0_repack 135 = .ok (.getfield 16, 3) := by decide +kernel
theorem dX0_repack_138 : decode cX0_repack 138 = .ok (.iload_n 3, 1) := by decide +kernel
theorem dX0_repack_139 : decode cX0_repack 139 = .ok (.aload_n 0, 1) := by decide +kernel
theorem dX0_repack_140 : decode cX0_repack 140 = .ok (.getfield 28, 3) := by decide +kernel
theorem dX0_repack_143 : decode cX0_repack 143 = .ok (.iload_n 2, 1) := by decide +kernel
theorem dX0_repack_144 : decode cX0_repack 144 = .ok (.iaload, 1) := by decide +kernel
theorem dX0_repack_145 : decode cX0_repack 145 = .ok (.iastore, 1) := by decide +kernel
theorem dX0_repack_146 : decode cX0_repack 146 = .ok (.aload_n 0, 1) := by decide +kernel
theorem dX0_repack_147 : decode cX0_repack 147 = .ok (.getfield 19, 3) := by decide +kernel
theorem dX0_repack_150 : decode cX0_repack 150 = .ok (.iload_n 3, 1) := by decide +kernel
theorem dX0_repack_151 : decode cX0_repack 151 = .ok (.aload_n 0, 1) := by decide +kernel
theorem dX0_repack_152 : decode cX0_repack 152 = .ok (.getfield 31, 3) := by decide +kernel
theorem dX0_repack_155 : decode cX0_repack 155 = .ok (.iload_n 2, 1) := by decide +kernel
theorem dX0_repack_156 : decode cX0_repack 156 = .ok (.iaload, 1) := by decide +kernel
theorem dX0_repack_157 : decode cX0_repack 157 = .ok (.iastore, 1) := by decide +kernel
theorem dX0_repack_158 : decode cX0_repack 158 = .ok (.aload_n 0, 1) := by decide +kernel
theorem dX0_repack_159 : decode cX0_repack 159 = .ok (.getfield 13, 3) := by decide +kernel
theorem dX0_repack_162 : decode cX0_repack 162 = .ok (.iload_n 2, 1) := by decide +kernel
theorem dX0_repack_163 : decode cX0_repack 163 = .ok (.bipush 6, 2) := by decide +kernel
theorem dX0_repack_165 : decode cX0_repack 165 = .ok (.idiv, 1) := by decide +kernel
theorem dX0_repack_166 : decode cX0_repack 166 = .ok (.dup2, 1) := by decide +kernel
theorem dX0_repack_167 : decode cX0_repack 167 = .ok (.iaload, 1) := by decide +kernel
theorem dX0_repack_168 : decode cX0_repack 168 = .ok (.iconst 1, 1) := by decide +kernel
theorem dX0_repack_169 : decode cX0_repack 169 = .ok (.iadd, 1) := by decide +kernel
theorem dX0_repack_170 : decode cX0_repack 170 = .ok (.iastore, 1) := by decide +kernel
theorem dX0_repack_171 : decode cX0_repack 171 = .ok (.iinc 2 1, 3) := by decide +kernel
theorem dX0_repack_174 : decode cX0_repack 174 = .ok (.goto (-58), 3) := by decide +kernel
theorem dX0_repack_177 : decode cX0_repack 177 = .ok (.return_, 1) := by decide +kernel
abbrev cX0_splitLeaf : ByteArray := prog_1_method_16_code
def yX0_splitLeaf : MethodName := ⟨RX0, "splitLeaf", "(I)V"⟩
theorem dX0_splitLeaf_0 : decode cX0_splitLeaf 0 = .ok (.aload_n 0, 1) := by decide +kernel
theorem dX0_splitLeaf_1 : decode cX0_splitLeaf 1 = .ok (.getfield 34, 3) := by decide +kernel
theorem dX0_splitLeaf_4 : decode cX0_splitLeaf 4 = .ok (.istore_n 2, 1) := by decide +kernel
theorem dX0_splitLeaf_5 : decode cX0_splitLeaf 5 = .ok (.iload_n 2, 1) := by decide +kernel
theorem dX0_splitLeaf_6 : decode cX0_splitLeaf 6 = .ok (.iload_n 1, 1) := by decide +kernel
theorem dX0_splitLeaf_7 : decode cX0_splitLeaf 7 = .ok (.iconst 1, 1) := by decide +kernel
theorem dX0_splitLeaf_8 : decode cX0_splitLeaf 8 = .ok (.iadd, 1) := by decide +kernel
theorem dX0_splitLeaf_9 : decode cX0_splitLeaf 9 = .ok (.if_icmp .le 17, 3) := by decide +kernel
theorem dX0_splitLeaf_12 : decode cX0_splitLeaf 12 = .ok (.aload_n 0, 1) := by decide +kernel
theorem dX0_splitLeaf_13 : decode cX0_splitLeaf 13 = .ok (.iload_n 2, 1) := by decide +kernel
theorem dX0_splitLeaf_14 : decode cX0_splitLeaf 14 = .ok (.iconst 1, 1) := by decide +kernel
theorem dX0_splitLeaf_15 : decode cX0_splitLeaf 15 = .ok (.isub, 1) := by decide +kernel
theorem dX0_splitLeaf_16 : decode cX0_splitLeaf 16 = .ok (.iload_n 2, 1) := by decide +kernel
theorem dX0_splitLeaf_17 : decode cX0_splitLeaf 17 = .ok (.invokevirtual 67, 3) := by decide +kernel
theorem dX0_splitLeaf_20 : decode cX0_splitLeaf 20 = .ok (.iinc 2 (-1), 3) := by decide +kernel
theorem dX0_splitLeaf_23 : decode cX0_splitLeaf 23 = .ok (.goto (-18), 3) := by decide +kernel
theorem dX0_splitLeaf_26 : decode cX0_splitLeaf 26 = .ok (.aload_n 0, 1) := by decide +kernel
theorem dX0_splitLeaf_27 : decode cX0_splitLeaf 27 = .ok (.dup, 1) := by decide +kernel
theorem dX0_splitLeaf_28 : decode cX0_splitLeaf 28 = .ok (.getfield 34, 3) := by decide +kernel
theorem dX0_splitLeaf_31 : decode cX0_splitLeaf 31 = .ok (.iconst 1, 1) := by decide +kernel
theorem dX0_splitLeaf_32 : decode cX0_splitLeaf 32 = .ok (.iadd, 1) := by decide +kernel
theorem dX0_splitLeaf_33 : decode cX0_splitLeaf 33 = .ok (.putfield 34, 3) := by decide +kernel
theorem dX0_splitLeaf_36 : decode cX0_splitLeaf 36 = .ok (.aload_n 0, 1) := by decide +kernel
theorem dX0_splitLeaf_37 : decode cX0_splitLeaf 37 = .ok (.iload_n 1, 1) := by decide +kernel
theorem dX0_splitLeaf_38 : decode cX0_splitLeaf 38 = .ok (.iload_n 1, 1) := by decide +kernel
theorem dX0_splitLeaf_39 : decode cX0_splitLeaf 39 = .ok (.iconst 1, 1) := by decide +kernel
theorem dX0_splitLeaf_40 : decode cX0_splitLeaf 40 = .ok (.iadd, 1) := by decide +kernel
theorem dX0_splitLeaf_41 : decode cX0_splitLeaf 41 = .ok (.invokevirtual 67, 3) := by decide +kernel
theorem dX0_splitLeaf_44 : decode cX0_splitLeaf 44 = .ok (.aload_n 0, 1) := by decide +kernel
theorem dX0_splitLeaf_45 : decode cX0_splitLeaf 45 = .ok (.getfield 13, 3) := by decide +kernel
theorem dX0_splitLeaf_48 : decode cX0_splitLeaf 48 = .ok (.iload_n 1, 1) := by decide +kernel
theorem dX0_splitLeaf_49 : decode cX0_splitLeaf 49 = .ok (.iconst 4, 1) := by decide +kernel
theorem dX0_splitLeaf_50 : decode cX0_splitLeaf 50 = .ok (.iastore, 1) := by decide +kernel
theorem dX0_splitLeaf_51 : decode cX0_splitLeaf 51 = .ok (.aload_n 0, 1) := by decide +kernel
theorem dX0_splitLeaf_52 : decode cX0_splitLeaf 52 = .ok (.getfield 13, 3) := by decide +kernel
theorem dX0_splitLeaf_55 : decode cX0_splitLeaf 55 = .ok (.iload_n 1, 1) := by decide +kernel
theorem dX0_splitLeaf_56 : decode cX0_splitLeaf 56 = .ok (.iconst 1, 1) := by decide +kernel
theorem dX0_splitLeaf_57 : decode cX0_splitLeaf 57 = .ok (.iadd, 1) := by decide +kernel
theorem dX0_splitLeaf_58 : decode cX0_splitLeaf 58 = .ok (.iconst 4, 1) := by decide +kernel
theorem dX0_splitLeaf_59 : decode cX0_splitLeaf 59 = .ok (.iastore, 1) := by decide +kernel
theorem dX0_splitLeaf_60 : decode cX0_splitLeaf 60 = .ok (.iconst 0, 1) := by decide +kernel
theorem dX0_splitLeaf_61 : decode cX0_splitLeaf 61 = .ok (.istore_n 2, 1) := by decide +kernel
theorem dX0_splitLeaf_62 : decode cX0_splitLeaf 62 = .ok (.iload_n 2, 1) := by decide +kernel
theorem dX0_splitLeaf_63 : decode cX0_splitLeaf 63 = .ok (.iconst 4, 1) := by decide +kernel
theorem dX0_splitLeaf_64 : decode cX0_splitLeaf 64 = .ok (.if_icmp .ge 61, 3) := by decide +kernel
theorem dX0_splitLeaf_67 : decode cX0_splitLeaf 67 = .ok (.aload_n 0, 1) := by decide +kernel
theorem dX0_splitLeaf_68 : decode cX0_splitLeaf 68 = .ok (.getfield 16, 3) := by decide +kernel
theorem dX0_splitLeaf_71 : decode cX0_splitLeaf 71 = .ok (.iload_n 1, 1) := by decide +kernel
theorem dX0_splitLeaf_72 : decode cX0_splitLeaf 72 = .ok (.iconst 1, 1) := by decide +kernel
theorem dX0_splitLeaf_73 : decode cX0_splitLeaf 73 = .ok (.iadd, 1) := by decide +kernel
theorem dX0_splitLeaf_74 : decode cX0_splitLeaf 74 = .ok (.bipush 8, 2) := by decide +kernel
theorem dX0_splitLeaf_76 : decode cX0_splitLeaf 76 = .ok (.imul, 1) := by decide +kernel
theorem dX0_splitLeaf_77 : decode cX0_splitLeaf 77 = .ok (.iload_n 2, 1) := by decide +kernel
theorem dX0_splitLeaf_78 : decode cX0_splitLeaf 78 = .ok (.iadd, 1) := by decide +kernel
theorem dX0_splitLeaf_79 : decode cX0_splitLeaf 79 = .ok (.aload_n 0, 1) := by decide +kernel
theorem dX0_splitLeaf_80 : decode cX0_splitLeaf 80 = .ok (.getfield 16, 3) := by decide +kernel
theorem dX0_splitLeaf_83 : decode cX0_splitLeaf 83 = .ok (.iload_n 1, 1) := by decide +kernel
theorem dX0_splitLeaf_84 : decode cX0_splitLeaf 84 = .ok (.bipush 8, 2) := by decide +kernel
theorem dX0_splitLeaf_86 : decode cX0_splitLeaf 86 = .ok (.imul, 1) := by decide +kernel
theorem dX0_splitLeaf_87 : decode cX0_splitLeaf 87 = .ok (.iload_n 2, 1) := by decide +kernel
theorem dX0_splitLeaf_88 : decode cX0_splitLeaf 88 = .ok (.iadd, 1) := by decide +kernel
theorem dX0_splitLeaf_89 : decode cX0_splitLeaf 89 = .ok (.iconst 4, 1) := by decide +kernel
theorem dX0_splitLeaf_90 : decode cX0_splitLeaf 90 = .ok (.iadd, 1) := by decide +kernel
theorem dX0_splitLeaf_91 : decode cX0_splitLeaf 91 = .ok (.iaload, 1) := by decide +kernel
theorem dX0_splitLeaf_92 : decode cX0_splitLeaf 92 = .ok (.iastore, 1) := by decide +kernel
theorem dX0_splitLeaf_93 : decode cX0_splitLeaf 93 = .ok (.aload_n 0, 1) := by decide +kernel
theorem dX0_splitLeaf_94 : decode cX0_splitLeaf 94 = .ok (.getfield 19, 3) := by decide +kernel
theorem dX0_splitLeaf_97 : decode cX0_splitLeaf 97 = .ok (.iload_n 1, 1) := by decide +kernel
theorem dX0_splitLeaf_98 : decode cX0_splitLeaf 98 = .ok (.iconst 1, 1) := by decide +kernel
theorem dX0_splitLeaf_99 : decode cX0_splitLeaf 99 = .ok (.iadd, 1) := by decide +kernel
theorem dX0_splitLeaf_100 : decode cX0_splitLeaf 100 = .ok (.bipush 8, 2) := by decide +kernel
theorem dX0_splitLeaf_102 : decode cX0_splitLeaf 102 = .ok (.imul, 1) := by decide +kernel
theorem dX0_splitLeaf_103 : decode cX0_splitLeaf 103 = .ok (.iload_n 2, 1) := by decide +kernel
theorem dX0_splitLeaf_104 : decode cX0_splitLeaf 104 = .ok (.iadd, 1) := by decide +kernel
theorem dX0_splitLeaf_105 : decode cX0_splitLeaf 105 = .ok (.aload_n 0, 1) := by decide +kernel
theorem dX0_splitLeaf_106 : decode cX0_splitLeaf 106 = .ok (.getfield 19, 3) := by decide +kernel
theorem dX0_splitLeaf_109 : decode cX0_splitLeaf 109 = .ok (.iload_n 1, 1) := by decide +kernel
theorem dX0_splitLeaf_110 : decode cX0_splitLeaf 110 = .ok (.bipush 8, 2) := by decide +kernel
theorem dX0_splitLeaf_112 : decode cX0_splitLeaf 112 = .ok (.imul, 1) := by decide +kernel
theorem dX0_splitLeaf_113 : decode cX0_splitLeaf 113 = .ok (.iload_n 2, 1) := by decide +kernel
theorem dX0_splitLeaf_114 : decode cX0_splitLeaf 114 = .ok (.iadd, 1) := by decide +kernel
theorem dX0_splitLeaf_115 : decode cX0_splitLeaf 115 = .ok (.iconst 4, 1) := by decide +kernel
theorem dX0_splitLeaf_116 : decode cX0_splitLeaf 116 = .ok (.iadd, 1) := by decide +kernel
theorem dX0_splitLeaf_117 : decode cX0_splitLeaf 117 = .ok (.iaload, 1) := by decide +kernel
theorem dX0_splitLeaf_118 : decode cX0_splitLeaf 118 = .ok (.iastore, 1) := by decide +kernel
theorem dX0_splitLeaf_119 : decode cX0_splitLeaf 119 = .ok (.iinc 2 1, 3) := by decide +kernel
theorem dX0_splitLeaf_122 : decode cX0_splitLeaf 122 = .ok (.goto (-60), 3) := by decide +kernel
theorem dX0_splitLeaf_125 : decode cX0_splitLeaf 125 = .ok (.return_, 1) := by decide +kernel
abbrev cX0_copyLeaf : ByteArray := prog_1_method_15_code
def yX0_copyLeaf : MethodName := ⟨RX0, "copyLeaf", "(II)V"⟩
theorem dX0_copyLeaf_0 : decode cX0_copyLeaf 0 = .ok (.aload_n 0, 1) := by decide +kernel
theorem dX0_copyLeaf_1 : decode cX0_copyLeaf 1 = .ok (.getfield 13, 3) := by decide +kernel
theorem dX0_copyLeaf_4 : decode cX0_copyLeaf 4 = .ok (.iload_n 2, 1) := by decide +kernel
theorem dX0_copyLeaf_5 : decode cX0_copyLeaf 5 = .ok (.aload_n 0, 1) := by decide +kernel
theorem dX0_copyLeaf_6 : decode cX0_copyLeaf 6 = .ok (.getfield 13, 3) := by decide +kernel
theorem dX0_copyLeaf_9 : decode cX0_copyLeaf 9 = .ok (.iload_n 1, 1) := by decide +kernel
theorem dX0_copyLeaf_10 : decode cX0_copyLeaf 10 = .ok (.iaload, 1) := by decide +kernel
theorem dX0_copyLeaf_11 : decode cX0_copyLeaf 11 = .ok (.iastore, 1) := by decide +kernel
theorem dX0_copyLeaf_12 : decode cX0_copyLeaf 12 = .ok (.iconst 0, 1) := by decide +kernel
theorem dX0_copyLeaf_13 : decode cX0_copyLeaf 13 = .ok (.istore_n 3, 1) := by decide +kernel
theorem dX0_copyLeaf_14 : decode cX0_copyLeaf 14 = .ok (.iload_n 3, 1) := by decide +kernel
theorem dX0_copyLeaf_15 : decode cX0_copyLeaf 15 = .ok (.bipush 8, 2) := by decide +kernel
theorem dX0_copyLeaf_17 : decode cX0_copyLeaf 17 = .ok (.if_icmp .ge 53, 3) := by decide +kernel
theorem dX0_copyLeaf_20 : decode cX0_copyLeaf 20 = .ok (.aload_n 0, 1) := by decide +kernel
theorem dX0_copyLeaf_21 : decode cX0_copyLeaf 21 = .ok (.getfield 16, 3) := by decide +kernel
theorem dX0_copyLeaf_24 : decode cX0_copyLeaf 24 = .ok (.iload_n 2, 1) := by decide +kernel
theorem dX0_copyLeaf_25 : decode cX0_copyLeaf 25 = .ok (.bipush 8, 2) := by decide +kernel
theorem dX0_copyLeaf_27 : decode cX0_copyLeaf 27 = .ok (.imul, 1) := by decide +kernel
theorem dX0_copyLeaf_28 : decode cX0_copyLeaf 28 = .ok (.iload_n 3, 1) := by decide +kernel
theorem dX0_copyLeaf_29 : decode cX0_copyLeaf 29 = .ok (.iadd, 1) := by decide +kernel
theorem dX0_copyLeaf_30 : decode cX0_copyLeaf 30 = .ok (.aload_n 0, 1) := by decide +kernel
theorem dX0_copyLeaf_31 : decode cX0_copyLeaf 31 = .ok (.getfield 16, 3) := by decide +kernel
theorem dX0_copyLeaf_34 : decode cX0_copyLeaf 34 = .ok (.iload_n 1, 1) := by decide +kernel
theorem dX0_copyLeaf_35 : decode cX0_copyLeaf 35 = .ok (.bipush 8, 2) := by decide +kernel
theorem dX0_copyLeaf_37 : decode cX0_copyLeaf 37 = .ok (.imul, 1) := by decide +kernel
theorem dX0_copyLeaf_38 : decode cX0_copyLeaf 38 = .ok (.iload_n 3, 1) := by decide +kernel
theorem dX0_copyLeaf_39 : decode cX0_copyLeaf 39 = .ok (.iadd, 1) := by decide +kernel
theorem dX0_copyLeaf_40 : decode cX0_copyLeaf 40 = .ok (.iaload, 1) := by decide +kernel
theorem dX0_copyLeaf_41 : decode cX0_copyLeaf 41 = .ok (.iastore, 1) := by decide +kernel
theorem dX0_copyLeaf_42 : decode cX0_copyLeaf 42 = .ok (.aload_n 0, 1) := by decide +kernel
theorem dX0_copyLeaf_43 : decode cX0_copyLeaf 43 = .ok (.getfield 19, 3) := by decide +kernel
theorem dX0_copyLeaf_46 : decode cX0_copyLeaf 46 = .ok (.iload_n 2, 1) := by decide +kernel
theorem dX0_copyLeaf_47 : decode cX0_copyLeaf 47 = .ok (.bipush 8, 2) := by decide +kernel
theorem dX0_copyLeaf_49 : decode cX0_copyLeaf 49 = .ok (.imul, 1) := by decide +kernel
theorem dX0_copyLeaf_50 : decode cX0_copyLeaf 50 = .ok (.iload_n 3, 1) := by decide +kernel
theorem dX0_copyLeaf_51 : decode cX0_copyLeaf 51 = .ok (.iadd, 1) := by decide +kernel
theorem dX0_copyLeaf_52 : decode cX0_copyLeaf 52 = .ok (.aload_n 0, 1) := by decide +kernel
theorem dX0_copyLeaf_53 : decode cX0_copyLeaf 53 = .ok (.getfield 19, 3) := by decide +kernel
theorem dX0_copyLeaf_56 : decode cX0_copyLeaf 56 = .ok (.iload_n 1, 1) := by decide +kernel
theorem dX0_copyLeaf_57 : decode cX0_copyLeaf 57 = .ok (.bipush 8, 2) := by decide +kernel
theorem dX0_copyLeaf_59 : decode cX0_copyLeaf 59 = .ok (.imul, 1) := by decide +kernel
theorem dX0_copyLeaf_60 : decode cX0_copyLeaf 60 = .ok (.iload_n 3, 1) := by decide +kernel
theorem dX0_copyLeaf_61 : decode cX0_copyLeaf 61 = .ok (.iadd, 1) := by decide +kernel
theorem dX0_copyLeaf_62 : decode cX0_copyLeaf 62 = .ok (.iaload, 1) := by decide +kernel
theorem dX0_copyLeaf_63 : decode cX0_copyLeaf 63 = .ok (.iastore, 1) := by decide +kernel
theorem dX0_copyLeaf_64 : decode cX0_copyLeaf 64 = .ok (.iinc 3 1, 3) := by decide +kernel
theorem dX0_copyLeaf_67 : decode cX0_copyLeaf 67 = .ok (.goto (-53), 3) := by decide +kernel
theorem dX0_copyLeaf_70 : decode cX0_copyLeaf 70 = .ok (.return_, 1) := by decide +kernel
abbrev cX0_increment : ByteArray := prog_1_method_22_code
def yX0_increment : MethodName := ⟨RX0, "increment", "(I)I"⟩
theorem dX0_increment_0 : decode cX0_increment 0 = .ok (.aload_n 0, 1) := by decide +kernel
theorem dX0_increment_1 : decode cX0_increment 1 = .ok (.getfield 42, 3) := by decide +kernel
theorem dX0_increment_4 : decode cX0_increment 4 = .ok (.ifCond .ne 6, 3) := by decide +kernel
theorem dX0_increment_7 : decode cX0_increment 7 = .ok (.bipush (-3), 2) := by decide +kernel
theorem dX0_increment_9 : decode cX0_increment 9 = .ok (.ireturn, 1) := by decide +kernel
theorem dX0_increment_10 : decode cX0_increment 10 = .ok (.aload_n 0, 1) := by decide +kernel
theorem dX0_increment_11 : decode cX0_increment 11 = .ok (.aload_n 0, 1) := by decide +kernel
theorem dX0_increment_12 : decode cX0_increment 12 = .ok (.getfield 42, 3) := by decide +kernel
theorem dX0_increment_15 : decode cX0_increment 15 = .ok (.invokevirtual 50, 3) := by decide +kernel
theorem dX0_increment_18 : decode cX0_increment 18 = .ok (.istore_n 2, 1) := by decide +kernel
theorem dX0_increment_19 : decode cX0_increment 19 = .ok (.aload_n 0, 1) := by decide +kernel
theorem dX0_increment_20 : decode cX0_increment 20 = .ok (.iload_n 2, 1) := by decide +kernel
theorem dX0_increment_21 : decode cX0_increment 21 = .ok (.invokevirtual 83, 3) := by decide +kernel
theorem dX0_increment_24 : decode cX0_increment 24 = .ok (.istore_n 3, 1) := by decide +kernel
theorem dX0_increment_25 : decode cX0_increment 25 = .ok (.iload_n 3, 1) := by decide +kernel
theorem dX0_increment_26 : decode cX0_increment 26 = .ok (.ifCond .ne 15, 3) := by decide +kernel
theorem dX0_increment_29 : decode cX0_increment 29 = .ok (.aload_n 0, 1) := by decide +kernel
theorem dX0_increment_30 : decode cX0_increment 30 = .ok (.getfield 80, 3) := by decide +kernel
theorem dX0_increment_33 : decode cX0_increment 33 = .ok (.bipush 60, 2) := by decide +kernel
theorem dX0_increment_35 : decode cX0_increment 35 = .ok (.if_icmp .lt 6, 3) := by decide +kernel
theorem dX0_increment_38 : decode cX0_increment 38 = .ok (.bipush (-2), 2) := by decide +kernel
theorem dX0_increment_40 : decode cX0_increment 40 = .ok (.ireturn, 1) := by decide +kernel
theorem dX0_increment_41 : decode cX0_increment 41 = .ok (.iload_n 3, 1) := by decide +kernel
theorem dX0_increment_42 : decode cX0_increment 42 = .ok (.ifCond .eq 25, 3) := by decide +kernel
theorem dX0_increment_45 : decode cX0_increment 45 = .ok (.aload_n 0, 1) := by decide +kernel
theorem dX0_increment_46 : decode cX0_increment 46 = .ok (.getfield 19, 3) := by decide +kernel
theorem dX0_increment_49 : decode cX0_increment 49 = .ok (.aload_n 0, 1) := by decide +kernel
theorem dX0_increment_50 : decode cX0_increment 50 = .ok (.getfield 53, 3) := by decide +kernel
theorem dX0_increment_53 : decode cX0_increment 53 = .ok (.bipush 8, 2) := by decide +kernel
theorem dX0_increment_55 : decode cX0_increment 55 = .ok (.imul, 1) := by decide +kernel
theorem dX0_increment_56 : decode cX0_increment 56 = .ok (.aload_n 0, 1) := by decide +kernel
theorem dX0_increment_57 : decode cX0_increment 57 = .ok (.getfield 56, 3) := by decide +kernel
theorem dX0_increment_60 : decode cX0_increment 60 = .ok (.iadd, 1) := by decide +kernel
theorem dX0_increment_61 : decode cX0_increment 61 = .ok (.iaload, 1) := by decide +kernel
theorem dX0_increment_62 : decode cX0_increment 62 = .ok (.iload_n 1, 1) := by decide +kernel
theorem dX0_increment_63 : decode cX0_increment 63 = .ok (.iadd, 1) := by decide +kernel
theorem dX0_increment_64 : decode cX0_increment 64 = .ok (.goto 4, 3) := by decide +kernel
theorem dX0_increment_67 : decode cX0_increment 67 = .ok (.iload_n 1, 1) := by decide +kernel
theorem dX0_increment_68 : decode cX0_increment 68 = .ok (.istore 4, 2) := by decide +kernel
theorem dX0_increment_70 : decode cX0_increment 70 = .ok (.aload_n 0, 1) := by decide +kernel
theorem dX0_increment_71 : decode cX0_increment 71 = .ok (.iload_n 2, 1) := by decide +kernel
theorem dX0_increment_72 : decode cX0_increment 72 = .ok (.iload 4, 2) := by decide +kernel
theorem dX0_increment_74 : decode cX0_increment 74 = .ok (.invokevirtual 89, 3) := by decide +kernel
theorem dX0_increment_77 : decode cX0_increment 77 = .ok (.iload 4, 2) := by decide +kernel
theorem dX0_increment_79 : decode cX0_increment 79 = .ok (.ireturn, 1) := by decide +kernel
abbrev cX0_kill : ByteArray := prog_1_method_23_code
def yX0_kill : MethodName := ⟨RX0, "kill", "()I"⟩
theorem dX0_kill_0 : decode cX0_kill 0 = .ok (.aload_n 0, 1) := by decide +kernel
theorem dX0_kill_1 : decode cX0_kill 1 = .ok (.aload_n 0, 1) := by decide +kernel
theorem dX0_kill_2 : decode cX0_kill 2 = .ok (.getfield 42, 3) := by decide +kernel
theorem dX0_kill_5 : decode cX0_kill 5 = .ok (.invokevirtual 50, 3) := by decide +kernel
theorem dX0_kill_8 : decode cX0_kill 8 = .ok (.istore_n 1, 1) := by decide +kernel
theorem dX0_kill_9 : decode cX0_kill 9 = .ok (.aload_n 0, 1) := by decide +kernel
theorem dX0_kill_10 : decode cX0_kill 10 = .ok (.aload_n 0, 1) := by decide +kernel
theorem dX0_kill_11 : decode cX0_kill 11 = .ok (.getfield 42, 3) := by decide +kernel
theorem dX0_kill_14 : decode cX0_kill 14 = .ok (.invokevirtual 92, 3) := by decide +kernel
theorem dX0_kill_17 : decode cX0_kill 17 = .ok (.istore_n 2, 1) := by decide +kernel
theorem dX0_kill_18 : decode cX0_kill 18 = .ok (.iconst 0, 1) := by decide +kernel
theorem dX0_kill_19 : decode cX0_kill 19 = .ok (.istore_n 3, 1) := by decide +kernel
theorem dX0_kill_20 : decode cX0_kill 20 = .ok (.aload_n 0, 1) := by decide +kernel
theorem dX0_kill_21 : decode cX0_kill 21 = .ok (.iload_n 1, 1) := by decide +kernel
theorem dX0_kill_22 : decode cX0_kill 22 = .ok (.invokevirtual 59, 3) := by decide +kernel
theorem dX0_kill_25 : decode cX0_kill 25 = .ok (.iconst 0, 1) := by decide +kernel
theorem dX0_kill_26 : decode cX0_kill 26 = .ok (.istore 4, 2) := by decide +kernel
theorem dX0_kill_28 : decode cX0_kill 28 = .ok (.iload 4, 2) := by decide +kernel
theorem dX0_kill_30 : decode cX0_kill 30 = .ok (.bipush 60, 2) := by decide +kernel
theorem dX0_kill_32 : decode cX0_kill 32 = .ok (.if_icmp .ge 29, 3) := by decide +kernel
theorem dX0_kill_35 : decode cX0_kill 35 = .ok (.aload_n 0, 1) := by decide +kernel
theorem dX0_kill_36 : decode cX0_kill 36 = .ok (.invokevirtual 63, 3) := by decide +kernel
theorem dX0_kill_39 : decode cX0_kill 39 = .ok (.iload_n 2, 1) := by decide +kernel
theorem dX0_kill_40 : decode cX0_kill 40 = .ok (.if_icmp .ge 21, 3) := by decide +kernel
theorem dX0_kill_43 : decode cX0_kill 43 = .ok (.aload_n 0, 1) := by decide +kernel
theorem dX0_kill_44 : decode cX0_kill 44 = .ok (.invokevirtual 95, 3) := by decide +kernel
theorem dX0_kill_47 : decode cX0_kill 47 = .ok (.iinc 3 1, 3) := by decide +kernel
theorem dX0_kill_50 : decode cX0_kill 50 = .ok (.aload_n 0, 1) := by decide +kernel
theorem dX0_kill_51 : decode cX0_kill 51 = .ok (.iload_n 1, 1) := by decide +kernel
theorem dX0_kill_52 : decode cX0_kill 52 = .ok (.invokevirtual 59, 3) := by decide +kernel
theorem dX0_kill_55 : decode cX0_kill 55 = .ok (.iinc 4 1, 3) := by decide +kernel
theorem dX0_kill_58 : decode cX0_kill 58 = .ok (.goto (-30), 3) := by decide +kernel
theorem dX0_kill_61 : decode cX0_kill 61 = .ok (.iload_n 3, 1) := by decide +kernel
theorem dX0_kill_62 : decode cX0_kill 62 = .ok (.ireturn, 1) := by decide +kernel
abbrev cX0_endOf : ByteArray := prog_1_method_8_code
def yX0_endOf : MethodName := ⟨RX0, "endOf", "(I)I"⟩
theorem dX0_endOf_0 : decode cX0_endOf 0 = .ok (.iload_n 1, 1) := by decide +kernel
theorem dX0_endOf_1 : decode cX0_endOf 1 = .ok (.ifCond .ne 8, 3) := by decide +kernel
theorem dX0_endOf_4 : decode cX0_endOf 4 = .ok (.ldc 49, 2) := by decide +kernel
theorem dX0_endOf_6 : decode cX0_endOf 6 = .ok (.goto 15, 3) := by decide +kernel
theorem dX0_endOf_9 : decode cX0_endOf 9 = .ok (.aload_n 0, 1) := by decide +kernel
theorem dX0_endOf_10 : decode cX0_endOf 10 = .ok (.iload_n 1, 1) := by decide +kernel
theorem dX0_endOf_11 : decode cX0_endOf 11 = .ok (.invokevirtual 50, 3) := by decide +kernel
theorem dX0_endOf_14 : decode cX0_endOf 14 = .ok (.iload_n 1, 1) := by decide +kernel
theorem dX0_endOf_15 : decode cX0_endOf 15 = .ok (.iconst 1, 1) := by decide +kernel
theorem dX0_endOf_16 : decode cX0_endOf 16 = .ok (.isub, 1) := by decide +kernel
theorem dX0_endOf_17 : decode cX0_endOf 17 = .ok (.invokestatic 45, 3) := by decide +kernel
theorem dX0_endOf_20 : decode cX0_endOf 20 = .ok (.iadd, 1) := by decide +kernel
theorem dX0_endOf_21 : decode cX0_endOf 21 = .ok (.ireturn, 1) := by decide +kernel
abbrev cX0_removeFound : ByteArray := prog_1_method_19_code
def yX0_removeFound : MethodName := ⟨RX0, "removeFound", "()V"⟩
theorem dX0_removeFound_0 : decode cX0_removeFound 0 = .ok (.aload_n 0, 1) := by decide +kernel
theorem dX0_removeFound_1 : decode cX0_removeFound 1 = .ok (.getfield 13, 3) := by decide +kernel
theorem dX0_removeFound_4 : decode cX0_removeFound 4 = .ok (.aload_n 0, 1) := by decide +kernel
theorem dX0_removeFound_5 : decode cX0_removeFound 5 = .ok (.getfield 53, 3) := by decide +kernel
theorem dX0_removeFound_8 : decode cX0_removeFound 8 = .ok (.dup2, 1) := by decide +kernel
theorem dX0_removeFound_9 : decode cX0_removeFound 9 = .ok (.iaload, 1) := by decide +kernel
theorem dX0_removeFound_10 : decode cX0_removeFound 10 = .ok (.iconst 1, 1) := by decide +kernel
theorem dX0_removeFound_11 : decode cX0_removeFound 11 = .ok (.isub, 1) := by decide +kernel
theorem dX0_removeFound_12 : decode cX0_removeFound 12 = .ok (.iastore, 1) := by decide +kernel
theorem dX0_removeFound_13 : decode cX0_removeFound 13 = .ok (.aload_n 0, 1) := by decide +kernel
theorem dX0_removeFound_14 : decode cX0_removeFound 14 = .ok (.dup, 1) := by decide +kernel
theorem dX0_removeFound_15 : decode cX0_removeFound 15 = .ok (.getfield 80, 3) := by decide +kernel
theorem dX0_removeFound_18 : decode cX0_removeFound 18 = .ok (.iconst 1, 1) := by decide +kernel
theorem dX0_removeFound_19 : decode cX0_removeFound 19 = .ok (.isub, 1) := by decide +kernel
theorem dX0_removeFound_20 : decode cX0_removeFound 20 = .ok (.putfield 80, 3) := by decide +kernel
theorem dX0_removeFound_23 : decode cX0_removeFound 23 = .ok (.aload_n 0, 1) := by decide +kernel
theorem dX0_removeFound_24 : decode cX0_removeFound 24 = .ok (.getfield 56, 3) := by decide +kernel
theorem dX0_removeFound_27 : decode cX0_removeFound 27 = .ok (.istore_n 1, 1) := by decide +kernel
theorem dX0_removeFound_28 : decode cX0_removeFound 28 = .ok (.iload_n 1, 1) := by decide +kernel
theorem dX0_removeFound_29 : decode cX0_removeFound 29 = .ok (.aload_n 0, 1) := by decide +kernel
theorem dX0_removeFound_30 : decode cX0_removeFound 30 = .ok (.getfield 13, 3) := by decide +kernel
theorem dX0_removeFound_33 : decode cX0_removeFound 33 = .ok (.aload_n 0, 1) := by decide +kernel
theorem dX0_removeFound_34 : decode cX0_removeFound 34 = .ok (.getfield 53, 3) := by decide +kernel
theorem dX0_removeFound_37 : decode cX0_removeFound 37 = .ok (.iaload, 1) := by decide +kernel
theorem dX0_removeFound_38 : decode cX0_removeFound 38 = .ok (.if_icmp .ge 69, 3) := by decide +kernel
theorem dX0_removeFound_41 : decode cX0_removeFound 41 = .ok (.aload_n 0, 1) := by decide +kernel
theorem dX0_removeFound_42 : decode cX0_removeFound 42 = .ok (.getfield 16, 3) := by decide +kernel
theorem dX0_removeFound_45 : decode cX0_removeFound 45 = .ok (.aload_n 0, 1) := by decide +kernel
theorem dX0_removeFound_46 : decode cX0_removeFound 46 = .ok (.getfield 53, 3) := by decide +kernel
theorem dX0_removeFound_49 : decode cX0_removeFound 49 = .ok (.bipush 8, 2) := by decide +kernel
theorem dX0_removeFound_51 : decode cX0_removeFound 51 = .ok (.imul, 1) := by decide +kernel
theorem dX0_removeFound_52 : decode cX0_removeFound 52 = .ok (.iload_n 1, 1) := by decide +kernel
theorem dX0_removeFound_53 : decode cX0_removeFound 53 = .ok (.iadd, 1) := by decide +kernel
theorem dX0_removeFound_54 : decode cX0_removeFound 54 = .ok (.aload_n 0, 1) := by decide +kernel
theorem dX0_removeFound_55 : decode cX0_removeFound 55 = .ok (.getfield 16, 3) := by decide +kernel
theorem dX0_removeFound_58 : decode cX0_removeFound 58 = .ok (.aload_n 0, 1) := by decide +kernel
theorem dX0_removeFound_59 : decode cX0_removeFound 59 = .ok (.getfield 53, 3) := by decide +kernel
theorem dX0_removeFound_62 : decode cX0_removeFound 62 = .ok (.bipush 8, 2) := by decide +kernel
theorem dX0_removeFound_64 : decode cX0_removeFound 64 = .ok (.imul, 1) := by decide +kernel
theorem dX0_removeFound_65 : decode cX0_removeFound 65 = .ok (.iload_n 1, 1) := by decide +kernel
theorem dX0_removeFound_66 : decode cX0_removeFound 66 = .ok (.iadd, 1) := by decide +kernel
theorem dX0_removeFound_67 : decode cX0_removeFound 67 = .ok (.iconst 1, 1) := by decide +kernel
theorem dX0_removeFound_68 : decode cX0_removeFound 68 = .ok (.iadd, 1) := by decide +kernel
theorem dX0_removeFound_69 : decode cX0_removeFound 69 = .ok (.iaload, 1) := by decide +kernel
theorem dX0_removeFound_70 : decode cX0_removeFound 70 = .ok (.iastore, 1) := by decide +kernel
theorem dX0_removeFound_71 : decode cX0_removeFound 71 = .ok (.aload_n 0, 1) := by decide +kernel
theorem dX0_removeFound_72 : decode cX0_removeFound 72 = .ok (.getfield 19, 3) := by decide +kernel
theorem dX0_removeFound_75 : decode cX0_removeFound 75 = .ok (.aload_n 0, 1) := by decide +kernel
theorem dX0_removeFound_76 : decode cX0_removeFound 76 = .ok (.getfield 53, 3) := by decide +kernel
theorem dX0_removeFound_79 : decode cX0_removeFound 79 = .ok (.bipush 8, 2) := by decide +kernel
theorem dX0_removeFound_81 : decode cX0_removeFound 81 = .ok (.imul, 1) := by decide +kernel
theorem dX0_removeFound_82 : decode cX0_removeFound 82 = .ok (.iload_n 1, 1) := by decide +kernel
theorem dX0_removeFound_83 : decode cX0_removeFound 83 = .ok (.iadd, 1) := by decide +kernel
theorem dX0_removeFound_84 : decode cX0_removeFound 84 = .ok (.aload_n 0, 1) := by decide +kernel
theorem dX0_removeFound_85 : decode cX0_removeFound 85 = .ok (.getfield 19, 3) := by decide +kernel
theorem dX0_removeFound_88 : decode cX0_removeFound 88 = .ok (.aload_n 0, 1) := by decide +kernel
theorem dX0_removeFound_89 : decode cX0_removeFound 89 = .ok (.getfield 53, 3) := by decide +kernel
theorem dX0_removeFound_92 : decode cX0_removeFound 92 = .ok (.bipush 8, 2) := by decide +kernel
theorem dX0_removeFound_94 : decode cX0_removeFound 94 = .ok (.imul, 1) := by decide +kernel
theorem dX0_removeFound_95 : decode cX0_removeFound 95 = .ok (.iload_n 1, 1) := by decide +kernel
theorem dX0_removeFound_96 : decode cX0_removeFound 96 = .ok (.iadd, 1) := by decide +kernel
theorem dX0_removeFound_97 : decode cX0_removeFound 97 = .ok (.iconst 1, 1) := by decide +kernel
theorem dX0_removeFound_98 : decode cX0_removeFound 98 = .ok (.iadd, 1) := by decide +kernel
theorem dX0_removeFound_99 : decode cX0_removeFound 99 = .ok (.iaload, 1) := by decide +kernel
theorem dX0_removeFound_100 : decode cX0_removeFound 100 = .ok (.iastore, 1) := by decide +kernel
theorem dX0_removeFound_101 : decode cX0_removeFound 101 = .ok (.iinc 1 1, 3) := by decide +kernel
theorem dX0_removeFound_104 : decode cX0_removeFound 104 = .ok (.goto (-76), 3) := by decide +kernel
theorem dX0_removeFound_107 : decode cX0_removeFound 107 = .ok (.aload_n 0, 1) := by decide +kernel
theorem dX0_removeFound_108 : decode cX0_removeFound 108 = .ok (.getfield 13, 3) := by decide +kernel
theorem dX0_removeFound_111 : decode cX0_removeFound 111 = .ok (.aload_n 0, 1) := by decide +kernel
theorem dX0_removeFound_112 : decode cX0_removeFound 112 = .ok (.getfield 53, 3) := by decide +kernel
theorem dX0_removeFound_115 : decode cX0_removeFound 115 = .ok (.iaload, 1) := by decide +kernel
theorem dX0_removeFound_116 : decode cX0_removeFound 116 = .ok (.ifCond .gt 11, 3) := by decide +kernel
theorem dX0_removeFound_119 : decode cX0_removeFound 119 = .ok (.aload_n 0, 1) := by decide +kernel
theorem dX0_removeFound_120 : decode cX0_removeFound 120 = .ok (.getfield 34, 3) := by decide +kernel
theorem dX0_removeFound_123 : decode cX0_removeFound 123 = .ok (.iconst 1, 1) := by decide +kernel
theorem dX0_removeFound_124 : decode cX0_removeFound 124 = .ok (.if_icmp .ne 4, 3) := by decide +kernel
theorem dX0_removeFound_127 : decode cX0_removeFound 127 = .ok (.return_, 1) := by decide +kernel
theorem dX0_removeFound_128 : decode cX0_removeFound 128 = .ok (.aload_n 0, 1) := by decide +kernel
theorem dX0_removeFound_129 : decode cX0_removeFound 129 = .ok (.getfield 53, 3) := by decide +kernel
theorem dX0_removeFound_132 : decode cX0_removeFound 132 = .ok (.istore_n 1, 1) := by decide +kernel
theorem dX0_removeFound_133 : decode cX0_removeFound 133 = .ok (.iload_n 1, 1) := by decide +kernel
theorem dX0_removeFound_134 : decode cX0_removeFound 134 = .ok (.iconst 1, 1) := by decide +kernel
theorem dX0_removeFound_135 : decode cX0_removeFound 135 = .ok (.iadd, 1) := by decide +kernel
theorem dX0_removeFound_136 : decode cX0_removeFound 136 = .ok (.aload_n 0, 1) := by decide +kernel
theorem dX0_removeFound_137 : decode cX0_removeFound 137 = .ok (.getfield 34, 3) := by decide +kernel
theorem dX0_removeFound_140 : decode cX0_removeFound 140 = .ok (.if_icmp .ge 17, 3) := by decide +kernel
theorem dX0_removeFound_143 : decode cX0_removeFound 143 = .ok (.aload_n 0, 1) := by decide +kernel
theorem dX0_removeFound_144 : decode cX0_removeFound 144 = .ok (.iload_n 1, 1) := by decide +kernel
theorem dX0_removeFound_145 : decode cX0_removeFound 145 = .ok (.iconst 1, 1) := by decide +kernel
theorem dX0_removeFound_146 : decode cX0_removeFound 146 = .ok (.iadd, 1) := by decide +kernel
theorem dX0_removeFound_147 : decode cX0_removeFound 147 = .ok (.iload_n 1, 1) := by decide +kernel
theorem dX0_removeFound_148 : decode cX0_removeFound 148 = .ok (.invokevirtual 67, 3) := by decide +kernel
theorem dX0_removeFound_151 : decode cX0_removeFound 151 = .ok (.iinc 1 1, 3) := by decide +kernel
theorem dX0_removeFound_154 : decode cX0_removeFound 154 = .ok (.goto (-21), 3) := by decide +kernel
theorem dX0_removeFound_157 : decode cX0_removeFound 157 = .ok (.aload_n 0, 1) := by decide +kernel
theorem dX0_removeFound_158 : decode cX0_removeFound 158 = .ok (.dup, 1) := by decide +kernel
theorem dX0_removeFound_159 : decode cX0_removeFound 159 = .ok (.getfield 34, 3) := by decide +kernel
theorem dX0_removeFound_162 : decode cX0_removeFound 162 = .ok (.iconst 1, 1) := by decide +kernel
theorem dX0_removeFound_163 : decode cX0_removeFound 163 = .ok (.isub, 1) := by decide +kernel
theorem dX0_removeFound_164 : decode cX0_removeFound 164 = .ok (.putfield 34, 3) := by decide +kernel
theorem dX0_removeFound_167 : decode cX0_removeFound 167 = .ok (.return_, 1) := by decide +kernel
end
section
set_option maxRecDepth 100000
abbrev cX0_merge : ByteArray := prog_1_method_24_code
def yX0_merge : MethodName := ⟨RX0, "merge", "(I)I"⟩
theorem dX0_merge_0 : decode cX0_merge 0 = .ok (.aload_n 0, 1) := by decide +kernel
theorem dX0_merge_1 : decode cX0_merge 1 = .ok (.getfield 42, 3) := by decide +kernel
theorem dX0_merge_4 : decode cX0_merge 4 = .ok (.ifCond .ne 6, 3) := by decide +kernel
theorem dX0_merge_7 : decode cX0_merge 7 = .ok (.bipush (-3), 2) := by decide +kernel
theorem dX0_merge_9 : decode cX0_merge 9 = .ok (.ireturn, 1) := by decide +kernel
theorem dX0_merge_10 : decode cX0_merge 10 = .ok (.iload_n 1, 1) := by decide +kernel
theorem dX0_merge_11 : decode cX0_merge 11 = .ok (.invokestatic 38, 3) := by decide +kernel
theorem dX0_merge_14 : decode cX0_merge 14 = .ok (.ifCond .eq 5, 3) := by decide +kernel
theorem dX0_merge_17 : decode cX0_merge 17 = .ok (.iconst (-1), 1) := by decide +kernel
theorem dX0_merge_18 : decode cX0_merge 18 = .ok (.ireturn, 1) := by decide +kernel
theorem dX0_merge_19 : decode cX0_merge 19 = .ok (.aload_n 0, 1) := by decide +kernel
theorem dX0_merge_20 : decode cX0_merge 20 = .ok (.aload_n 0, 1) := by decide +kernel
theorem dX0_merge_21 : decode cX0_merge 21 = .ok (.getfield 42, 3) := by decide +kernel
theorem dX0_merge_24 : decode cX0_merge 24 = .ok (.invokevirtual 50, 3) := by decide +kernel
theorem dX0_merge_27 : decode cX0_merge 27 = .ok (.istore_n 2, 1) := by decide +kernel
theorem dX0_merge_28 : decode cX0_merge 28 = .ok (.aload_n 0, 1) := by decide +kernel
theorem dX0_merge_29 : decode cX0_merge 29 = .ok (.aload_n 0, 1) := by decide +kernel
theorem dX0_merge_30 : decode cX0_merge 30 = .ok (.getfield 42, 3) := by decide +kernel
theorem dX0_merge_33 : decode cX0_merge 33 = .ok (.invokevirtual 92, 3) := by decide +kernel
theorem dX0_merge_36 : decode cX0_merge 36 = .ok (.istore_n 3, 1) := by decide +kernel
theorem dX0_merge_37 : decode cX0_merge 37 = .ok (.iload_n 1, 1) := by decide +kernel
theorem dX0_merge_38 : decode cX0_merge 38 = .ok (.bipush 51, 2) := by decide +kernel
theorem dX0_merge_40 : decode cX0_merge 40 = .ok (.iadd, 1) := by decide +kernel
theorem dX0_merge_41 : decode cX0_merge 41 = .ok (.aload_n 0, 1) := by decide +kernel
theorem dX0_merge_42 : decode cX0_merge 42 = .ok (.getfield 7, 3) := by decide +kernel
theorem dX0_merge_45 : decode cX0_merge 45 = .ok (.aload_n 0, 1) := by decide +kernel
theorem dX0_merge_46 : decode cX0_merge 46 = .ok (.getfield 42, 3) := by decide +kernel
theorem dX0_merge_49 : decode cX0_merge 49 = .ok (.iconst 1, 1) := by decide +kernel
theorem dX0_merge_50 : decode cX0_merge 50 = .ok (.isub, 1) := by decide +kernel
theorem dX0_merge_51 : decode cX0_merge 51 = .ok (.iaload, 1) := by decide +kernel
theorem dX0_merge_52 : decode cX0_merge 52 = .ok (.isub, 1) := by decide +kernel
theorem dX0_merge_53 : decode cX0_merge 53 = .ok (.aload_n 0, 1) := by decide +kernel
theorem dX0_merge_54 : decode cX0_merge 54 = .ok (.getfield 42, 3) := by decide +kernel
theorem dX0_merge_57 : decode cX0_merge 57 = .ok (.iconst 1, 1) := by decide +kernel
theorem dX0_merge_58 : decode cX0_merge 58 = .ok (.isub, 1) := by decide +kernel
theorem dX0_merge_59 : decode cX0_merge 59 = .ok (.invokestatic 45, 3) := by decide +kernel
theorem dX0_merge_62 : decode cX0_merge 62 = .ok (.imul, 1) := by decide +kernel
theorem dX0_merge_63 : decode cX0_merge 63 = .ok (.istore 4, 2) := by decide +kernel
theorem dX0_merge_65 : decode cX0_merge 65 = .ok (.iconst 0, 1) := by decide +kernel
theorem dX0_merge_66 : decode cX0_merge 66 = .ok (.istore 5, 2) := by decide +kernel
theorem dX0_merge_68 : decode cX0_merge 68 = .ok (.aload_n 0, 1) := by decide +kernel
theorem dX0_merge_69 : decode cX0_merge 69 = .ok (.iload_n 2, 1) := by decide +kernel
theorem dX0_merge_70 : decode cX0_merge 70 = .ok (.invokevirtual 59, 3) := by decide +kernel
theorem dX0_merge_73 : decode cX0_merge 73 = .ok (.iload 5, 2) := by decide +kernel
theorem dX0_merge_75 : decode cX0_merge 75 = .ok (.bipush 60, 2) := by decide +kernel
theorem dX0_merge_77 : decode cX0_merge 77 = .ok (.if_icmp .ge 80, 3) := by decide +kernel
theorem dX0_merge_80 : decode cX0_merge 80 = .ok (.aload_n 0, 1) := by decide +kernel
theorem dX0_merge_81 : decode cX0_merge 81 = .ok (.invokevirtual 63, 3) := by decide +kernel
theorem dX0_merge_84 : decode cX0_merge 84 = .ok (.iload_n 3, 1) := by decide +kernel
theorem dX0_merge_85 : decode cX0_merge 85 = .ok (.if_icmp .ge 72, 3) := by decide +kernel
theorem dX0_merge_88 : decode cX0_merge 88 = .ok (.aload_n 0, 1) := by decide +kernel
theorem dX0_merge_89 : decode cX0_merge 89 = .ok (.getfield 22, 3) := by decide +kernel
theorem dX0_merge_92 : decode cX0_merge 92 = .ok (.iload 5, 2) := by decide +kernel
theorem dX0_merge_94 : decode cX0_merge 94 = .ok (.aload_n 0, 1) := by decide +kernel
theorem dX0_merge_95 : decode cX0_merge 95 = .ok (.getfield 16, 3) := by decide +kernel
theorem dX0_merge_98 : decode cX0_merge 98 = .ok (.aload_n 0, 1) := by decide +kernel
theorem dX0_merge_99 : decode cX0_merge 99 = .ok (.getfield 53, 3) := by decide +kernel
theorem dX0_merge_102 : decode cX0_merge 102 = .ok (.bipush 8, 2) := by decide +kernel
theorem dX0_merge_104 : decode cX0_merge 104 = .ok (.imul, 1) := by decide +kernel
theorem dX0_merge_105 : decode cX0_merge 105 = .ok (.aload_n 0, 1) := by decide +kernel
theorem dX0_merge_106 : decode cX0_merge 106 = .ok (.getfield 56, 3) := by decide +kernel
theorem dX0_merge_109 : decode cX0_merge 109 = .ok (.iadd, 1) := by decide +kernel
theorem dX0_merge_110 : decode cX0_merge 110 = .ok (.iaload, 1) := by decide +kernel
theorem dX0_merge_111 : decode cX0_merge 111 = .ok (.iastore, 1) := by decide +kernel
theorem dX0_merge_112 : decode cX0_merge 112 = .ok (.aload_n 0, 1) := by decide +kernel
theorem dX0_merge_113 : decode cX0_merge 113 = .ok (.getfield 25, 3) := by decide +kernel
theorem dX0_merge_116 : decode cX0_merge 116 = .ok (.iload 5, 2) := by decide +kernel
theorem dX0_merge_118 : decode cX0_merge 118 = .ok (.aload_n 0, 1) := by decide +kernel
theorem dX0_merge_119 : decode cX0_merge 119 = .ok (.getfield 19, 3) := by decide +kernel
theorem dX0_merge_122 : decode cX0_merge 122 = .ok (.aload_n 0, 1) := by decide +kernel
theorem dX0_merge_123 : decode cX0_merge 123 = .ok (.getfield 53, 3) := by decide +kernel
theorem dX0_merge_126 : decode cX0_merge 126 = .ok (.bipush 8, 2) := by decide +kernel
theorem dX0_merge_128 : decode cX0_merge 128 = .ok (.imul, 1) := by decide +kernel
theorem dX0_merge_129 : decode cX0_merge 129 = .ok (.aload_n 0, 1) := by decide +kernel
theorem dX0_merge_130 : decode cX0_merge 130 = .ok (.getfield 56, 3) := by decide +kernel
theorem dX0_merge_133 : decode cX0_merge 133 = .ok (.iadd, 1) := by decide +kernel
theorem dX0_merge_134 : decode cX0_merge 134 = .ok (.iaload, 1) := by decide +kernel
theorem dX0_merge_135 : decode cX0_merge 135 = .ok (.iastore, 1) := by decide +kernel
theorem dX0_merge_136 : decode cX0_merge 136 = .ok (.iinc 5 1, 3) := by decide +kernel
theorem dX0_merge_139 : decode cX0_merge 139 = .ok (.aload_n 0, 1) := by decide +kernel
theorem dX0_merge_140 : decode cX0_merge 140 = .ok (.aload_n 0, 1) := by decide +kernel
theorem dX0_merge_141 : decode cX0_merge 141 = .ok (.getfield 22, 3) := by decide +kernel
theorem dX0_merge_144 : decode cX0_merge 144 = .ok (.iload 5, 2) := by decide +kernel
theorem dX0_merge_146 : decode cX0_merge 146 = .ok (.iconst 1, 1) := by decide +kernel
theorem dX0_merge_147 : decode cX0_merge 147 = .ok (.isub, 1) := by decide +kernel
theorem dX0_merge_148 : decode cX0_merge 148 = .ok (.iaload, 1) := by decide +kernel
theorem dX0_merge_149 : decode cX0_merge 149 = .ok (.iconst 1, 1) := by decide +kernel
theorem dX0_merge_150 : decode cX0_merge 150 = .ok (.iadd, 1) := by decide +kernel
theorem dX0_merge_151 : decode cX0_merge 151 = .ok (.invokevirtual 59, 3) := by decide +kernel
theorem dX0_merge_154 : decode cX0_merge 154 = .ok (.goto (-81), 3) := by decide +kernel
theorem dX0_merge_157 : decode cX0_merge 157 = .ok (.iconst 0, 1) := by decide +kernel
theorem dX0_merge_158 : decode cX0_merge 158 = .ok (.istore 6, 2) := by decide +kernel
theorem dX0_merge_160 : decode cX0_merge 160 = .ok (.iconst 0, 1) := by decide +kernel
theorem dX0_merge_161 : decode cX0_merge 161 = .ok (.istore 7, 2) := by decide +kernel
theorem dX0_merge_163 : decode cX0_merge 163 = .ok (.iload 7, 2) := by decide +kernel
theorem dX0_merge_165 : decode cX0_merge 165 = .ok (.iload 5, 2) := by decide +kernel
theorem dX0_merge_167 : decode cX0_merge 167 = .ok (.if_icmp .ge 33, 3) := by decide +kernel
theorem dX0_merge_170 : decode cX0_merge 170 = .ok (.aload_n 0, 1) := by decide +kernel
theorem dX0_merge_171 : decode cX0_merge 171 = .ok (.aload_n 0, 1) := by decide +kernel
theorem dX0_merge_172 : decode cX0_merge 172 = .ok (.getfield 22, 3) := by decide +kernel
theorem dX0_merge_175 : decode cX0_merge 175 = .ok (.iload 7, 2) := by decide +kernel
theorem dX0_merge_177 : decode cX0_merge 177 = .ok (.iaload, 1) := by decide +kernel
theorem dX0_merge_178 : decode cX0_merge 178 = .ok (.iload 4, 2) := by decide +kernel
theorem dX0_merge_180 : decode cX0_merge 180 = .ok (.iadd, 1) := by decide +kernel
theorem dX0_merge_181 : decode cX0_merge 181 = .ok (.invokevirtual 83, 3) := by decide +kernel
theorem dX0_merge_184 : decode cX0_merge 184 = .ok (.istore 8, 2) := by decide +kernel
theorem dX0_merge_186 : decode cX0_merge 186 = .ok (.iload 8, 2) := by decide +kernel
theorem dX0_merge_188 : decode cX0_merge 188 = .ok (.ifCond .ne 6, 3) := by decide +kernel
theorem dX0_merge_191 : decode cX0_merge 191 = .ok (.iinc 6 1, 3) := by decide +kernel
theorem dX0_merge_194 : decode cX0_merge 194 = .ok (.iinc 7 1, 3) := by decide +kernel
theorem dX0_merge_197 : decode cX0_merge 197 = .ok (.goto (-34), 3) := by decide +kernel
theorem dX0_merge_200 : decode cX0_merge 200 = .ok (.aload_n 0, 1) := by decide +kernel
theorem dX0_merge_201 : decode cX0_merge 201 = .ok (.getfield 80, 3) := by decide +kernel
theorem dX0_merge_204 : decode cX0_merge 204 = .ok (.iload 6, 2) := by decide +kernel
theorem dX0_merge_206 : decode cX0_merge 206 = .ok (.iadd, 1) := by decide +kernel
theorem dX0_merge_207 : decode cX0_merge 207 = .ok (.bipush 60, 2) := by decide +kernel
theorem dX0_merge_209 : decode cX0_merge 209 = .ok (.if_icmp .le 6, 3) := by decide +kernel
theorem dX0_merge_212 : decode cX0_merge 212 = .ok (.bipush (-2), 2) := by decide +kernel
theorem dX0_merge_214 : decode cX0_merge 214 = .ok (.ireturn, 1) := by decide +kernel
theorem dX0_merge_215 : decode cX0_merge 215 = .ok (.iconst 0, 1) := by decide +kernel
theorem dX0_merge_216 : decode cX0_merge 216 = .ok (.istore 7, 2) := by decide +kernel
theorem dX0_merge_218 : decode cX0_merge 218 = .ok (.iload 7, 2) := by decide +kernel
theorem dX0_merge_220 : decode cX0_merge 220 = .ok (.iload 5, 2) := by decide +kernel
theorem dX0_merge_222 : decode cX0_merge 222 = .ok (.if_icmp .ge 30, 3) := by decide +kernel
theorem dX0_merge_225 : decode cX0_merge 225 = .ok (.aload_n 0, 1) := by decide +kernel
theorem dX0_merge_226 : decode cX0_merge 226 = .ok (.aload_n 0, 1) := by decide +kernel
theorem dX0_merge_227 : decode cX0_merge 227 = .ok (.getfield 22, 3) := by decide +kernel
theorem dX0_merge_230 : decode cX0_merge 230 = .ok (.iload 7, 2) := by decide +kernel
theorem dX0_merge_232 : decode cX0_merge 232 = .ok (.iaload, 1) := by decide +kernel
theorem dX0_merge_233 : decode cX0_merge 233 = .ok (.iload 4, 2) := by decide +kernel
theorem dX0_merge_235 : decode cX0_merge 235 = .ok (.iadd, 1) := by decide +kernel
theorem dX0_merge_236 : decode cX0_merge 236 = .ok (.aload_n 0, 1) := by decide +kernel
theorem dX0_merge_237 : decode cX0_merge 237 = .ok (.getfield 25, 3) := by decide +kernel
theorem dX0_merge_240 : decode cX0_merge 240 = .ok (.iload 7, 2) := by decide +kernel
theorem dX0_merge_242 : decode cX0_merge 242 = .ok (.iaload, 1) := by decide +kernel
theorem dX0_merge_243 : decode cX0_merge 243 = .ok (.invokevirtual 89, 3) := by decide +kernel
theorem dX0_merge_246 : decode cX0_merge 246 = .ok (.iinc 7 1, 3) := by decide +kernel
theorem dX0_merge_249 : decode cX0_merge 249 = .ok (.goto (-31), 3) := by decide +kernel
theorem dX0_merge_252 : decode cX0_merge 252 = .ok (.iload 5, 2) := by decide +kernel
theorem dX0_merge_254 : decode cX0_merge 254 = .ok (.ireturn, 1) := by decide +kernel
abbrev cX0_data : ByteArray := prog_1_method_26_code
def yX0_data : MethodName := ⟨RX0, "data", "()I"⟩
theorem dX0_data_0 : decode cX0_data 0 = .ok (.aload_n 0, 1) := by decide +kernel
theorem dX0_data_1 : decode cX0_data 1 = .ok (.invokevirtual 98, 3) := by decide +kernel
theorem dX0_data_4 : decode cX0_data 4 = .ok (.istore_n 1, 1) := by decide +kernel
theorem dX0_data_5 : decode cX0_data 5 = .ok (.iload_n 1, 1) := by decide +kernel
theorem dX0_data_6 : decode cX0_data 6 = .ok (.aload_n 0, 1) := by decide +kernel
theorem dX0_data_7 : decode cX0_data 7 = .ok (.aload_n 0, 1) := by decide +kernel
theorem dX0_data_8 : decode cX0_data 8 = .ok (.getfield 42, 3) := by decide +kernel
theorem dX0_data_11 : decode cX0_data 11 = .ok (.invokevirtual 92, 3) := by decide +kernel
theorem dX0_data_14 : decode cX0_data 14 = .ok (.if_icmp .ge 8, 3) := by decide +kernel
theorem dX0_data_17 : decode cX0_data 17 = .ok (.bipush 10, 2) := by decide +kernel
theorem dX0_data_19 : decode cX0_data 19 = .ok (.goto 4, 3) := by decide +kernel
theorem dX0_data_22 : decode cX0_data 22 = .ok (.iconst 0, 1) := by decide +kernel
theorem dX0_data_23 : decode cX0_data 23 = .ok (.istore_n 2, 1) := by decide +kernel
theorem dX0_data_24 : decode cX0_data 24 = .ok (.aload_n 0, 1) := by decide +kernel
theorem dX0_data_25 : decode cX0_data 25 = .ok (.getfield 42, 3) := by decide +kernel
theorem dX0_data_28 : decode cX0_data 28 = .ok (.ifCond .ne 5, 3) := by decide +kernel
theorem dX0_data_31 : decode cX0_data 31 = .ok (.iload_n 2, 1) := by decide +kernel
theorem dX0_data_32 : decode cX0_data 32 = .ok (.ireturn, 1) := by decide +kernel
theorem dX0_data_33 : decode cX0_data 33 = .ok (.aload_n 0, 1) := by decide +kernel
theorem dX0_data_34 : decode cX0_data 34 = .ok (.aload_n 0, 1) := by decide +kernel
theorem dX0_data_35 : decode cX0_data 35 = .ok (.getfield 42, 3) := by decide +kernel
theorem dX0_data_38 : decode cX0_data 38 = .ok (.invokevirtual 50, 3) := by decide +kernel
theorem dX0_data_41 : decode cX0_data 41 = .ok (.istore_n 3, 1) := by decide +kernel
theorem dX0_data_42 : decode cX0_data 42 = .ok (.aload_n 0, 1) := by decide +kernel
theorem dX0_data_43 : decode cX0_data 43 = .ok (.iload_n 3, 1) := by decide +kernel
theorem dX0_data_44 : decode cX0_data 44 = .ok (.invokevirtual 83, 3) := by decide +kernel
theorem dX0_data_47 : decode cX0_data 47 = .ok (.istore 4, 2) := by decide +kernel
theorem dX0_data_49 : decode cX0_data 49 = .ok (.iload 4, 2) := by decide +kernel
theorem dX0_data_51 : decode cX0_data 51 = .ok (.ifCond .eq 9, 3) := by decide +kernel
theorem dX0_data_54 : decode cX0_data 54 = .ok (.iload_n 2, 1) := by decide +kernel
theorem dX0_data_55 : decode cX0_data 55 = .ok (.iconst 1, 1) := by decide +kernel
theorem dX0_data_56 : decode cX0_data 56 = .ok (.iadd, 1) := by decide +kernel
theorem dX0_data_57 : decode cX0_data 57 = .ok (.goto 4, 3) := by decide +kernel
theorem dX0_data_60 : decode cX0_data 60 = .ok (.iload_n 2, 1) := by decide +kernel
theorem dX0_data_61 : decode cX0_data 61 = .ok (.ireturn, 1) := by decide +kernel
abbrev cX0_keyBehind : ByteArray := prog_1_method_25_code
def yX0_keyBehind : MethodName := ⟨RX0, "keyBehind", "()I"⟩
theorem dX0_keyBehind_0 : decode cX0_keyBehind 0 = .ok (.aload_n 0, 1) := by decide +kernel
theorem dX0_keyBehind_1 : decode cX0_keyBehind 1 = .ok (.aload_n 0, 1) := by decide +kernel
theorem dX0_keyBehind_2 : decode cX0_keyBehind 2 = .ok (.getfield 42, 3) := by decide +kernel
theorem dX0_keyBehind_5 : decode cX0_keyBehind 5 = .ok (.invokevirtual 50, 3) := by decide +kernel
theorem dX0_keyBehind_8 : decode cX0_keyBehind 8 = .ok (.istore_n 1, 1) := by decide +kernel
theorem dX0_keyBehind_9 : decode cX0_keyBehind 9 = .ok (.aload_n 0, 1) := by decide +kernel
theorem dX0_keyBehind_10 : decode cX0_keyBehind 10 = .ok (.aload_n 0, 1) := by decide +kernel
theorem dX0_keyBehind_11 : decode cX0_keyBehind 11 = .ok (.getfield 42, 3) := by decide +kernel
theorem dX0_keyBehind_14 : decode cX0_keyBehind 14 = .ok (.ifCond .ne 7, 3) := by decide +kernel
theorem dX0_keyBehind_17 : decode cX0_keyBehind 17 = .ok (.iconst 0, 1) := by decide +kernel
theorem dX0_keyBehind_18 : decode cX0_keyBehind 18 = .ok (.goto 6, 3) := by decide +kernel
theorem dX0_keyBehind_21 : decode cX0_keyBehind 21 = .ok (.iload_n 1, 1) := by decide +kernel
theorem dX0_keyBehind_22 : decode cX0_keyBehind 22 = .ok (.iconst 1, 1) := by decide +kernel
theorem dX0_keyBehind_23 : decode cX0_keyBehind 23 = .ok (.iadd, 1) := by decide +kernel
theorem dX0_keyBehind_24 : decode cX0_keyBehind 24 = .ok (.invokevirtual 59, 3) := by decide +kernel
theorem dX0_keyBehind_27 : decode cX0_keyBehind 27 = .ok (.aload_n 0, 1) := by decide +kernel
theorem dX0_keyBehind_28 : decode cX0_keyBehind 28 = .ok (.invokevirtual 63, 3) := by decide +kernel
theorem dX0_keyBehind_31 : decode cX0_keyBehind 31 = .ok (.ireturn, 1) := by decide +kernel
abbrev cX0_value : ByteArray := prog_1_method_27_code
def yX0_value : MethodName := ⟨RX0, "value", "()I"⟩
theorem dX0_value_0 : decode cX0_value 0 = .ok (.aload_n 0, 1) := by decide +kernel
theorem dX0_value_1 : decode cX0_value 1 = .ok (.getfield 42, 3) := by decide +kernel
theorem dX0_value_4 : decode cX0_value 4 = .ok (.ifCond .ne 5, 3) := by decide +kernel
theorem dX0_value_7 : decode cX0_value 7 = .ok (.iconst 0, 1) := by decide +kernel
theorem dX0_value_8 : decode cX0_value 8 = .ok (.ireturn, 1) := by decide +kernel
theorem dX0_value_9 : decode cX0_value 9 = .ok (.aload_n 0, 1) := by decide +kernel
theorem dX0_value_10 : decode cX0_value 10 = .ok (.aload_n 0, 1) := by decide +kernel
theorem dX0_value_11 : decode cX0_value 11 = .ok (.getfield 42, 3) := by decide +kernel
theorem dX0_value_14 : decode cX0_value 14 = .ok (.invokevirtual 50, 3) := by decide +kernel
theorem dX0_value_17 : decode cX0_value 17 = .ok (.istore_n 1, 1) := by decide +kernel
theorem dX0_value_18 : decode cX0_value 18 = .ok (.aload_n 0, 1) := by decide +kernel
theorem dX0_value_19 : decode cX0_value 19 = .ok (.iload_n 1, 1) := by decide +kernel
theorem dX0_value_20 : decode cX0_value 20 = .ok (.invokevirtual 83, 3) := by decide +kernel
theorem dX0_value_23 : decode cX0_value 23 = .ok (.istore_n 2, 1) := by decide +kernel
theorem dX0_value_24 : decode cX0_value 24 = .ok (.iload_n 2, 1) := by decide +kernel
theorem dX0_value_25 : decode cX0_value 25 = .ok (.ifCond .eq 23, 3) := by decide +kernel
theorem dX0_value_28 : decode cX0_value 28 = .ok (.aload_n 0, 1) := by decide +kernel
theorem dX0_value_29 : decode cX0_value 29 = .ok (.getfield 19, 3) := by decide +kernel
theorem dX0_value_32 : decode cX0_value 32 = .ok (.aload_n 0, 1) := by decide +kernel
theorem dX0_value_33 : decode cX0_value 33 = .ok (.getfield 53, 3) := by decide +kernel
theorem dX0_value_36 : decode cX0_value 36 = .ok (.bipush 8, 2) := by decide +kernel
theorem dX0_value_38 : decode cX0_value 38 = .ok (.imul, 1) := by decide +kernel
theorem dX0_value_39 : decode cX0_value 39 = .ok (.aload_n 0, 1) := by decide +kernel
theorem dX0_value_40 : decode cX0_value 40 = .ok (.getfield 56, 3) := by decide +kernel
theorem dX0_value_43 : decode cX0_value 43 = .ok (.iadd, 1) := by decide +kernel
theorem dX0_value_44 : decode cX0_value 44 = .ok (.iaload, 1) := by decide +kernel
theorem dX0_value_45 : decode cX0_value 45 = .ok (.goto 4, 3) := by decide +kernel
theorem dX0_value_48 : decode cX0_value 48 = .ok (.iconst 0, 1) := by decide +kernel
theorem dX0_value_49 : decode cX0_value 49 = .ok (.ireturn, 1) := by decide +kernel
abbrev cX0_next : ByteArray := prog_1_method_28_code
def yX0_next : MethodName := ⟨RX0, "next", "()I"⟩
theorem dX0_next_0 : decode cX0_next 0 = .ok (.aload_n 0, 1) := by decide +kernel
theorem dX0_next_1 : decode cX0_next 1 = .ok (.getfield 42, 3) := by decide +kernel
theorem dX0_next_4 : decode cX0_next 4 = .ok (.ifCond .ne 6, 3) := by decide +kernel
theorem dX0_next_7 : decode cX0_next 7 = .ok (.bipush (-100), 2) := by decide +kernel
theorem dX0_next_9 : decode cX0_next 9 = .ok (.ireturn, 1) := by decide +kernel
theorem dX0_next_10 : decode cX0_next 10 = .ok (.aload_n 0, 1) := by decide +kernel
theorem dX0_next_11 : decode cX0_next 11 = .ok (.aload_n 0, 1) := by decide +kernel
theorem dX0_next_12 : decode cX0_next 12 = .ok (.getfield 42, 3) := by decide +kernel
theorem dX0_next_15 : decode cX0_next 15 = .ok (.invokevirtual 92, 3) := by decide +kernel
theorem dX0_next_18 : decode cX0_next 18 = .ok (.istore_n 1, 1) := by decide +kernel
theorem dX0_next_19 : decode cX0_next 19 = .ok (.aload_n 0, 1) := by decide +kernel
theorem dX0_next_20 : decode cX0_next 20 = .ok (.iload_n 1, 1) := by decide +kernel
theorem dX0_next_21 : decode cX0_next 21 = .ok (.invokevirtual 59, 3) := by decide +kernel
theorem dX0_next_24 : decode cX0_next 24 = .ok (.aload_n 0, 1) := by decide +kernel
theorem dX0_next_25 : decode cX0_next 25 = .ok (.invokevirtual 63, 3) := by decide +kernel
theorem dX0_next_28 : decode cX0_next 28 = .ok (.istore_n 2, 1) := by decide +kernel
theorem dX0_next_29 : decode cX0_next 29 = .ok (.iload_n 2, 1) := by decide +kernel
theorem dX0_next_30 : decode cX0_next 30 = .ok (.aload_n 0, 1) := by decide +kernel
theorem dX0_next_31 : decode cX0_next 31 = .ok (.aload_n 0, 1) := by decide +kernel
theorem dX0_next_32 : decode cX0_next 32 = .ok (.getfield 42, 3) := by decide +kernel
theorem dX0_next_35 : decode cX0_next 35 = .ok (.iconst 1, 1) := by decide +kernel
theorem dX0_next_36 : decode cX0_next 36 = .ok (.isub, 1) := by decide +kernel
theorem dX0_next_37 : decode cX0_next 37 = .ok (.invokevirtual 92, 3) := by decide +kernel
theorem dX0_next_40 : decode cX0_next 40 = .ok (.if_icmp .ge 16, 3) := by decide +kernel
theorem dX0_next_43 : decode cX0_next 43 = .ok (.iload_n 2, 1) := by decide +kernel
theorem dX0_next_44 : decode cX0_next 44 = .ok (.aload_n 0, 1) := by decide +kernel
theorem dX0_next_45 : decode cX0_next 45 = .ok (.getfield 42, 3) := by decide +kernel
theorem dX0_next_48 : decode cX0_next 48 = .ok (.iconst 1, 1) := by decide +kernel
theorem dX0_next_49 : decode cX0_next 49 = .ok (.isub, 1) := by decide +kernel
theorem dX0_next_50 : decode cX0_next 50 = .ok (.invokestatic 101, 3) := by decide +kernel
theorem dX0_next_53 : decode cX0_next 53 = .ok (.goto 5, 3) := by decide +kernel
theorem dX0_next_56 : decode cX0_next 56 = .ok (.bipush (-100), 2) := by decide +kernel
theorem dX0_next_58 : decode cX0_next 58 = .ok (.ireturn, 1) := by decide +kernel
abbrev cX0_subscriptAt : ByteArray := prog_1_method_9_code
def yX0_subscriptAt : MethodName := ⟨RX0, "subscriptAt", "(II)I"⟩
theorem dX0_subscriptAt_0 : decode cX0_subscriptAt 0 = .ok (.iload_n 0, 1) := by decide +kernel
theorem dX0_subscriptAt_1 : decode cX0_subscriptAt 1 = .ok (.bipush 14, 2) := by decide +kernel
theorem dX0_subscriptAt_3 : decode cX0_subscriptAt 3 = .ok (.bipush 7, 2) := by decide +kernel
theorem dX0_subscriptAt_5 : decode cX0_subscriptAt 5 = .ok (.iload_n 1, 1) := by decide +kernel
theorem dX0_subscriptAt_6 : decode cX0_subscriptAt 6 = .ok (.imul, 1) := by decide +kernel
theorem dX0_subscriptAt_7 : decode cX0_subscriptAt 7 = .ok (.isub, 1) := by decide +kernel
theorem dX0_subscriptAt_8 : decode cX0_subscriptAt 8 = .ok (.ishr, 1) := by decide +kernel
theorem dX0_subscriptAt_9 : decode cX0_subscriptAt 9 = .ok (.bipush 127, 2) := by decide +kernel
theorem dX0_subscriptAt_11 : decode cX0_subscriptAt 11 = .ok (.iand, 1) := by decide +kernel
theorem dX0_subscriptAt_12 : decode cX0_subscriptAt 12 = .ok (.bipush 51, 2) := by decide +kernel
theorem dX0_subscriptAt_14 : decode cX0_subscriptAt 14 = .ok (.isub, 1) := by decide +kernel
theorem dX0_subscriptAt_15 : decode cX0_subscriptAt 15 = .ok (.ireturn, 1) := by decide +kernel
abbrev cX0_previous : ByteArray := prog_1_method_29_code
def yX0_previous : MethodName := ⟨RX0, "previous", "()I"⟩
theorem dX0_previous_0 : decode cX0_previous 0 = .ok (.aload_n 0, 1) := by decide +kernel
theorem dX0_previous_1 : decode cX0_previous 1 = .ok (.getfield 42, 3) := by decide +kernel
theorem dX0_previous_4 : decode cX0_previous 4 = .ok (.ifCond .ne 6, 3) := by decide +kernel
theorem dX0_previous_7 : decode cX0_previous 7 = .ok (.bipush (-100), 2) := by decide +kernel
theorem dX0_previous_9 : decode cX0_previous 9 = .ok (.ireturn, 1) := by decide +kernel
theorem dX0_previous_10 : decode cX0_previous 10 = .ok (.aload_n 0, 1) := by decide +kernel
theorem dX0_previous_11 : decode cX0_previous 11 = .ok (.aload_n 0, 1) := by decide +kernel
theorem dX0_previous_12 : decode cX0_previous 12 = .ok (.getfield 42, 3) := by decide +kernel
theorem dX0_previous_15 : decode cX0_previous 15 = .ok (.invokevirtual 50, 3) := by decide +kernel
theorem dX0_previous_18 : decode cX0_previous 18 = .ok (.istore_n 1, 1) := by decide +kernel
theorem dX0_previous_19 : decode cX0_previous 19 = .ok (.aload_n 0, 1) := by decide +kernel
theorem dX0_previous_20 : decode cX0_previous 20 = .ok (.iload_n 1, 1) := by decide +kernel
theorem dX0_previous_21 : decode cX0_previous 21 = .ok (.invokevirtual 105, 3) := by decide +kernel
theorem dX0_previous_24 : decode cX0_previous 24 = .ok (.istore_n 2, 1) := by decide +kernel
theorem dX0_previous_25 : decode cX0_previous 25 = .ok (.aload_n 0, 1) := by decide +kernel
theorem dX0_previous_26 : decode cX0_previous 26 = .ok (.aload_n 0, 1) := by decide +kernel
theorem dX0_previous_27 : decode cX0_previous 27 = .ok (.getfield 42, 3) := by decide +kernel
theorem dX0_previous_30 : decode cX0_previous 30 = .ok (.iconst 1, 1) := by decide +kernel
theorem dX0_previous_31 : decode cX0_previous 31 = .ok (.isub, 1) := by decide +kernel
theorem dX0_previous_32 : decode cX0_previous 32 = .ok (.invokevirtual 50, 3) := by decide +kernel
theorem dX0_previous_35 : decode cX0_previous 35 = .ok (.aload_n 0, 1) := by decide +kernel
theorem dX0_previous_36 : decode cX0_previous 36 = .ok (.getfield 42, 3) := by decide +kernel
theorem dX0_previous_39 : decode cX0_previous 39 = .ok (.iconst 1, 1) := by decide +kernel
theorem dX0_previous_40 : decode cX0_previous 40 = .ok (.isub, 1) := by decide +kernel
theorem dX0_previous_41 : decode cX0_previous 41 = .ok (.invokestatic 45, 3) := by decide +kernel
theorem dX0_previous_44 : decode cX0_previous 44 = .ok (.iadd, 1) := by decide +kernel
theorem dX0_previous_45 : decode cX0_previous 45 = .ok (.istore_n 3, 1) := by decide +kernel
theorem dX0_previous_46 : decode cX0_previous 46 = .ok (.iload_n 2, 1) := by decide +kernel
theorem dX0_previous_47 : decode cX0_previous 47 = .ok (.iload_n 3, 1) := by decide +kernel
theorem dX0_previous_48 : decode cX0_previous 48 = .ok (.if_icmp .ge 8, 3) := by decide +kernel
theorem dX0_previous_51 : decode cX0_previous 51 = .ok (.bipush (-100), 2) := by decide +kernel
theorem dX0_previous_53 : decode cX0_previous 53 = .ok (.goto 13, 3) := by decide +kernel
theorem dX0_previous_56 : decode cX0_previous 56 = .ok (.iload_n 2, 1) := by decide +kernel
theorem dX0_previous_57 : decode cX0_previous 57 = .ok (.aload_n 0, 1) := by decide +kernel
theorem dX0_previous_58 : decode cX0_previous 58 = .ok (.getfield 42, 3) := by decide +kernel
theorem dX0_previous_61 : decode cX0_previous 61 = .ok (.iconst 1, 1) := by decide +kernel
theorem dX0_previous_62 : decode cX0_previous 62 = .ok (.isub, 1) := by decide +kernel
theorem dX0_previous_63 : decode cX0_previous 63 = .ok (.invokestatic 101, 3) := by decide +kernel
theorem dX0_previous_66 : decode cX0_previous 66 = .ok (.ireturn, 1) := by decide +kernel
abbrev cX0_keyBefore : ByteArray := prog_1_method_13_code
def yX0_keyBefore : MethodName := ⟨RX0, "keyBefore", "(I)I"⟩
theorem dX0_keyBefore_0 : decode cX0_keyBefore 0 = .ok (.aload_n 0, 1) := by decide +kernel
theorem dX0_keyBefore_1 : decode cX0_keyBefore 1 = .ok (.iload_n 1, 1) := by decide +kernel
theorem dX0_keyBefore_2 : decode cX0_keyBefore 2 = .ok (.invokevirtual 59, 3) := by decide +kernel
theorem dX0_keyBefore_5 : decode cX0_keyBefore 5 = .ok (.aload_n 0, 1) := by decide +kernel
theorem dX0_keyBefore_6 : decode cX0_keyBefore 6 = .ok (.getfield 56, 3) := by decide +kernel
theorem dX0_keyBefore_9 : decode cX0_keyBefore 9 = .ok (.ifCond .le 23, 3) := by decide +kernel
theorem dX0_keyBefore_12 : decode cX0_keyBefore 12 = .ok (.aload_n 0, 1) := by decide +kernel
theorem dX0_keyBefore_13 : decode cX0_keyBefore 13 = .ok (.getfield 16, 3) := by decide +kernel
theorem dX0_keyBefore_16 : decode cX0_keyBefore 16 = .ok (.aload_n 0, 1) := by decide +kernel
theorem dX0_keyBefore_17 : decode cX0_keyBefore 17 = .ok (.getfield 53, 3) := by decide +kernel
theorem dX0_keyBefore_20 : decode cX0_keyBefore 20 = .ok (.bipush 8, 2) := by decide +kernel
theorem dX0_keyBefore_22 : decode cX0_keyBefore 22 = .ok (.imul, 1) := by decide +kernel
theorem dX0_keyBefore_23 : decode cX0_keyBefore 23 = .ok (.aload_n 0, 1) := by decide +kernel
theorem dX0_keyBefore_24 : decode cX0_keyBefore 24 = .ok (.getfield 56, 3) := by decide +kernel
theorem dX0_keyBefore_27 : decode cX0_keyBefore 27 = .ok (.iadd, 1) := by decide +kernel
theorem dX0_keyBefore_28 : decode cX0_keyBefore 28 = .ok (.iconst 1, 1) := by decide +kernel
theorem dX0_keyBefore_29 : decode cX0_keyBefore 29 = .ok (.isub, 1) := by decide +kernel
theorem dX0_keyBefore_30 : decode cX0_keyBefore 30 = .ok (.iaload, 1) := by decide +kernel
theorem dX0_keyBefore_31 : decode cX0_keyBefore 31 = .ok (.ireturn, 1) := by decide +kernel
theorem dX0_keyBefore_32 : decode cX0_keyBefore 32 = .ok (.aload_n 0, 1) := by decide +kernel
theorem dX0_keyBefore_33 : decode cX0_keyBefore 33 = .ok (.getfield 53, 3) := by decide +kernel
theorem dX0_keyBefore_36 : decode cX0_keyBefore 36 = .ok (.ifCond .ne 5, 3) := by decide +kernel
theorem dX0_keyBefore_39 : decode cX0_keyBefore 39 = .ok (.iconst (-1), 1) := by decide +kernel
theorem dX0_keyBefore_40 : decode cX0_keyBefore 40 = .ok (.ireturn, 1) := by decide +kernel
theorem dX0_keyBefore_41 : decode cX0_keyBefore 41 = .ok (.aload_n 0, 1) := by decide +kernel
theorem dX0_keyBefore_42 : decode cX0_keyBefore 42 = .ok (.getfield 16, 3) := by decide +kernel
theorem dX0_keyBefore_45 : decode cX0_keyBefore 45 = .ok (.aload_n 0, 1) := by decide +kernel
theorem dX0_keyBefore_46 : decode cX0_keyBefore 46 = .ok (.getfield 53, 3) := by decide +kernel
theorem dX0_keyBefore_49 : decode cX0_keyBefore 49 = .ok (.iconst 1, 1) := by decide +kernel
theorem dX0_keyBefore_50 : decode cX0_keyBefore 50 = .ok (.isub, 1) := by decide +kernel
theorem dX0_keyBefore_51 : decode cX0_keyBefore 51 = .ok (.bipush 8, 2) := by decide +kernel
theorem dX0_keyBefore_53 : decode cX0_keyBefore 53 = .ok (.imul, 1) := by decide +kernel
theorem dX0_keyBefore_54 : decode cX0_keyBefore 54 = .ok (.aload_n 0, 1) := by decide +kernel
theorem dX0_keyBefore_55 : decode cX0_keyBefore 55 = .ok (.getfield 13, 3) := by decide +kernel
theorem dX0_keyBefore_58 : decode cX0_keyBefore 58 = .ok (.aload_n 0, 1) := by decide +kernel
theorem dX0_keyBefore_59 : decode cX0_keyBefore 59 = .ok (.getfield 53, 3) := by decide +kernel
theorem dX0_keyBefore_62 : decode cX0_keyBefore 62 = .ok (.iconst 1, 1) := by decide +kernel
theorem dX0_keyBefore_63 : decode cX0_keyBefore 63 = .ok (.isub, 1) := by decide +kernel
theorem dX0_keyBefore_64 : decode cX0_keyBefore 64 = .ok (.iaload, 1) := by decide +kernel
theorem dX0_keyBefore_65 : decode cX0_keyBefore 65 = .ok (.iadd, 1) := by decide +kernel
theorem dX0_keyBefore_66 : decode cX0_keyBefore 66 = .ok (.iconst 1, 1) := by decide +kernel
theorem dX0_keyBefore_67 : decode cX0_keyBefore 67 = .ok (.isub, 1) := by decide +kernel
theorem dX0_keyBefore_68 : decode cX0_keyBefore 68 = .ok (.iaload, 1) := by decide +kernel
theorem dX0_keyBefore_69 : decode cX0_keyBefore 69 = .ok (.ireturn, 1) := by decide +kernel
abbrev cX0_first : ByteArray := prog_1_method_30_code
def yX0_first : MethodName := ⟨RX0, "first", "()I"⟩
theorem dX0_first_0 : decode cX0_first 0 = .ok (.aload_n 0, 1) := by decide +kernel
theorem dX0_first_1 : decode cX0_first 1 = .ok (.getfield 42, 3) := by decide +kernel
theorem dX0_first_4 : decode cX0_first 4 = .ok (.iconst 3, 1) := by decide +kernel
theorem dX0_first_5 : decode cX0_first 5 = .ok (.if_icmp .lt 6, 3) := by decide +kernel
theorem dX0_first_8 : decode cX0_first 8 = .ok (.bipush (-100), 2) := by decide +kernel
theorem dX0_first_10 : decode cX0_first 10 = .ok (.ireturn, 1) := by decide +kernel
theorem dX0_first_11 : decode cX0_first 11 = .ok (.aload_n 0, 1) := by decide +kernel
theorem dX0_first_12 : decode cX0_first 12 = .ok (.invokevirtual 98, 3) := by decide +kernel
theorem dX0_first_15 : decode cX0_first 15 = .ok (.istore_n 1, 1) := by decide +kernel
theorem dX0_first_16 : decode cX0_first 16 = .ok (.iload_n 1, 1) := by decide +kernel
theorem dX0_first_17 : decode cX0_first 17 = .ok (.aload_n 0, 1) := by decide +kernel
theorem dX0_first_18 : decode cX0_first 18 = .ok (.aload_n 0, 1) := by decide +kernel
theorem dX0_first_19 : decode cX0_first 19 = .ok (.getfield 42, 3) := by decide +kernel
theorem dX0_first_22 : decode cX0_first 22 = .ok (.invokevirtual 92, 3) := by decide +kernel
theorem dX0_first_25 : decode cX0_first 25 = .ok (.if_icmp .ge 14, 3) := by decide +kernel
theorem dX0_first_28 : decode cX0_first 28 = .ok (.iload_n 1, 1) := by decide +kernel
theorem dX0_first_29 : decode cX0_first 29 = .ok (.aload_n 0, 1) := by decide +kernel
theorem dX0_first_30 : decode cX0_first 30 = .ok (.getfield 42, 3) := by decide +kernel
theorem dX0_first_33 : decode cX0_first 33 = .ok (.invokestatic 101, 3) := by decide +kernel
theorem dX0_first_36 : decode cX0_first 36 = .ok (.goto 5, 3) := by decide +kernel
theorem dX0_first_39 : decode cX0_first 39 = .ok (.bipush (-100), 2) := by decide +kernel
theorem dX0_first_41 : decode cX0_first 41 = .ok (.ireturn, 1) := by decide +kernel
abbrev cX0_query : ByteArray := prog_1_method_31_code
def yX0_query : MethodName := ⟨RX0, "query", "()I"⟩
theorem dX0_query_0 : decode cX0_query 0 = .ok (.aload_n 0, 1) := by decide +kernel
theorem dX0_query_1 : decode cX0_query 1 = .ok (.invokevirtual 98, 3) := by decide +kernel
theorem dX0_query_4 : decode cX0_query 4 = .ok (.istore_n 1, 1) := by decide +kernel
theorem dX0_query_5 : decode cX0_query 5 = .ok (.iload_n 1, 1) := by decide +kernel
theorem dX0_query_6 : decode cX0_query 6 = .ok (.ldc 49, 2) := by decide +kernel
theorem dX0_query_8 : decode cX0_query 8 = .ok (.if_icmp .ne 7, 3) := by decide +kernel
theorem dX0_query_11 : decode cX0_query 11 = .ok (.iconst 0, 1) := by decide +kernel
theorem dX0_query_12 : decode cX0_query 12 = .ok (.goto 20, 3) := by decide +kernel
theorem dX0_query_15 : decode cX0_query 15 = .ok (.aload_n 0, 1) := by decide +kernel
theorem dX0_query_16 : decode cX0_query 16 = .ok (.getfield 19, 3) := by decide +kernel
theorem dX0_query_19 : decode cX0_query 19 = .ok (.aload_n 0, 1) := by decide +kernel
theorem dX0_query_20 : decode cX0_query 20 = .ok (.getfield 53, 3) := by decide +kernel
theorem dX0_query_23 : decode cX0_query 23 = .ok (.bipush 8, 2) := by decide +kernel
theorem dX0_query_25 : decode cX0_query 25 = .ok (.imul, 1) := by decide +kernel
theorem dX0_query_26 : decode cX0_query 26 = .ok (.aload_n 0, 1) := by decide +kernel
theorem dX0_query_27 : decode cX0_query 27 = .ok (.getfield 56, 3) := by decide +kernel
theorem dX0_query_30 : decode cX0_query 30 = .ok (.iadd, 1) := by decide +kernel
theorem dX0_query_31 : decode cX0_query 31 = .ok (.iaload, 1) := by decide +kernel
theorem dX0_query_32 : decode cX0_query 32 = .ok (.ireturn, 1) := by decide +kernel
abbrev cX0_before : ByteArray := prog_1_method_32_code
def yX0_before : MethodName := ⟨RX0, "before", "()I"⟩
theorem dX0_before_0 : decode cX0_before 0 = .ok (.aload_n 0, 1) := by decide +kernel
theorem dX0_before_1 : decode cX0_before 1 = .ok (.aload_n 0, 1) := by decide +kernel
theorem dX0_before_2 : decode cX0_before 2 = .ok (.getfield 42, 3) := by decide +kernel
theorem dX0_before_5 : decode cX0_before 5 = .ok (.invokevirtual 50, 3) := by decide +kernel
theorem dX0_before_8 : decode cX0_before 8 = .ok (.istore_n 1, 1) := by decide +kernel
theorem dX0_before_9 : decode cX0_before 9 = .ok (.aload_n 0, 1) := by decide +kernel
theorem dX0_before_10 : decode cX0_before 10 = .ok (.iload_n 1, 1) := by decide +kernel
theorem dX0_before_11 : decode cX0_before 11 = .ok (.invokevirtual 59, 3) := by decide +kernel
theorem dX0_before_14 : decode cX0_before 14 = .ok (.aload_n 0, 1) := by decide +kernel
theorem dX0_before_15 : decode cX0_before 15 = .ok (.getfield 56, 3) := by decide +kernel
theorem dX0_before_18 : decode cX0_before 18 = .ok (.istore_n 2, 1) := by decide +kernel
theorem dX0_before_19 : decode cX0_before 19 = .ok (.iconst 0, 1) := by decide +kernel
theorem dX0_before_20 : decode cX0_before 20 = .ok (.istore_n 3, 1) := by decide +kernel
theorem dX0_before_21 : decode cX0_before 21 = .ok (.iload_n 3, 1) := by decide +kernel
theorem dX0_before_22 : decode cX0_before 22 = .ok (.aload_n 0, 1) := by decide +kernel
theorem dX0_before_23 : decode cX0_before 23 = .ok (.getfield 53, 3) := by decide +kernel
theorem dX0_before_26 : decode cX0_before 26 = .ok (.if_icmp .ge 18, 3) := by decide +kernel
theorem dX0_before_29 : decode cX0_before 29 = .ok (.iload_n 2, 1) := by decide +kernel
theorem dX0_before_30 : decode cX0_before 30 = .ok (.aload_n 0, 1) := by decide +kernel
theorem dX0_before_31 : decode cX0_before 31 = .ok (.getfield 13, 3) := by decide +kernel
theorem dX0_before_34 : decode cX0_before 34 = .ok (.iload_n 3, 1) := by decide +kernel
theorem dX0_before_35 : decode cX0_before 35 = .ok (.iaload, 1) := by decide +kernel
theorem dX0_before_36 : decode cX0_before 36 = .ok (.iadd, 1) := by decide +kernel
theorem dX0_before_37 : decode cX0_before 37 = .ok (.istore_n 2, 1) := by decide +kernel
theorem dX0_before_38 : decode cX0_before 38 = .ok (.iinc 3 1, 3) := by decide +kernel
theorem dX0_before_41 : decode cX0_before 41 = .ok (.goto (-20), 3) := by decide +kernel
theorem dX0_before_44 : decode cX0_before 44 = .ok (.iload_n 2, 1) := by decide +kernel
theorem dX0_before_45 : decode cX0_before 45 = .ok (.ireturn, 1) := by decide +kernel
abbrev cX0_count : ByteArray := prog_1_method_33_code
def yX0_count : MethodName := ⟨RX0, "count", "()I"⟩
theorem dX0_count_0 : decode cX0_count 0 = .ok (.aload_n 0, 1) := by decide +kernel
theorem dX0_count_1 : decode cX0_count 1 = .ok (.getfield 80, 3) := by decide +kernel
theorem dX0_count_4 : decode cX0_count 4 = .ok (.ireturn, 1) := by decide +kernel
end
section
set_option maxRecDepth 100000
theorem q23 : (Jvm.Cond.initialized "GlobalTree") ∈ lw_all := lw_g (lw_at lw_m1 1 rfl) rfl
theorem q26 : (Jvm.Cond.instantiable "GlobalTree" (13 : Nat)) ∈ lw_all := lw_g (lw_at lw_m1 4 rfl) rfl
theorem q28 : (Jvm.Cond.instanceMethod ({ cls := "GlobalTree", name := "<init>", desc := "()V" } : Jvm.MethodName)) ∈ lw_all := lw_g (lw_at lw_m1 6 rfl) rfl
theorem q29 : (Jvm.Cond.code ({ cls := "GlobalTree", name := "<init>", desc := "()V" } : Jvm.MethodName) prog_1_method_1_code (1 : Nat) (Option.none : Option Jvm.ClassFile.FieldType)) ∈ lw_all := lw_g (lw_at lw_m1 7 rfl) rfl
theorem q30 : (Jvm.Cond.methodLink "GlobalTree" (1 : Nat) ({ cls := "java/lang/Object", name := "<init>", desc := "()V" } : Jvm.MethodName)) ∈ lw_all := lw_g (lw_at lw_m1 8 rfl) rfl
theorem q33 : (Jvm.Cond.fieldLink "GlobalTree" (42 : Nat) "GlobalTree" "depth" "I") ∈ lw_all := lw_g (lw_at lw_m1 11 rfl) rfl
theorem q34 : (Jvm.Cond.fieldLink "GlobalTree" (7 : Nat) "GlobalTree" "subscript" "[I") ∈ lw_all := lw_g (lw_at lw_m1 12 rfl) rfl
theorem q35 : (Jvm.Cond.fieldLink "GlobalTree" (34 : Nat) "GlobalTree" "leaves" "I") ∈ lw_all := lw_g (lw_at lw_m1 13 rfl) rfl
theorem q36 : (Jvm.Cond.fieldLink "GlobalTree" (13 : Nat) "GlobalTree" "size" "[I") ∈ lw_all := lw_g (lw_at lw_m1 14 rfl) rfl
theorem q37 : (Jvm.Cond.fieldLink "GlobalTree" (16 : Nat) "GlobalTree" "keys" "[I") ∈ lw_all := lw_g (lw_at lw_m1 15 rfl) rfl
theorem q38 : (Jvm.Cond.fieldLink "GlobalTree" (19 : Nat) "GlobalTree" "values" "[I") ∈ lw_all := lw_g (lw_at lw_m1 16 rfl) rfl
theorem q39 : (Jvm.Cond.fieldLink "GlobalTree" (80 : Nat) "GlobalTree" "total" "I") ∈ lw_all := lw_g (lw_at lw_m1 17 rfl) rfl
theorem q40 : (Jvm.Cond.fieldLink "GlobalTree" (53 : Nat) "GlobalTree" "leaf" "I") ∈ lw_all := lw_g (lw_at lw_m1 18 rfl) rfl
theorem q41 : (Jvm.Cond.fieldLink "GlobalTree" (56 : Nat) "GlobalTree" "slot" "I") ∈ lw_all := lw_g (lw_at lw_m1 19 rfl) rfl
theorem q42 : (Jvm.Cond.fieldLink "GlobalTree" (22 : Nat) "GlobalTree" "movedKey" "[I") ∈ lw_all := lw_g (lw_at lw_m1 20 rfl) rfl
theorem q43 : (Jvm.Cond.fieldLink "GlobalTree" (25 : Nat) "GlobalTree" "movedValue" "[I") ∈ lw_all := lw_g (lw_at lw_m1 21 rfl) rfl
theorem q44 : (Jvm.Cond.fieldLink "GlobalTree" (28 : Nat) "GlobalTree" "packedKey" "[I") ∈ lw_all := lw_g (lw_at lw_m1 22 rfl) rfl
theorem q45 : (Jvm.Cond.fieldLink "GlobalTree" (31 : Nat) "GlobalTree" "packedValue" "[I") ∈ lw_all := lw_g (lw_at lw_m1 23 rfl) rfl
theorem q46 : (Jvm.Cond.lays "GlobalTree" "GlobalTree" "depth" "I") ∈ lw_all := lw_g (lw_at lw_m1 24 rfl) rfl
theorem q47 : (Jvm.Cond.soleField "GlobalTree" "depth") ∈ lw_all := lw_g (lw_at lw_m1 25 rfl) rfl
theorem q48 : (Jvm.Cond.laysFinal "GlobalTree" "GlobalTree" "subscript" "[I") ∈ lw_all := lw_g (lw_at lw_m1 26 rfl) rfl
theorem q49 : (Jvm.Cond.soleField "GlobalTree" "subscript") ∈ lw_all := lw_g (lw_at lw_m1 27 rfl) rfl
theorem q50 : (Jvm.Cond.lays "GlobalTree" "GlobalTree" "leaves" "I") ∈ lw_all := lw_g (lw_at lw_m1 28 rfl) rfl
theorem q51 : (Jvm.Cond.soleField "GlobalTree" "leaves") ∈ lw_all := lw_g (lw_at lw_m1 29 rfl) rfl
theorem q52 : (Jvm.Cond.laysFinal "GlobalTree" "GlobalTree" "size" "[I") ∈ lw_all := lw_g (lw_at lw_m1 30 rfl) rfl
theorem q53 : (Jvm.Cond.soleField "GlobalTree" "size") ∈ lw_all := lw_g (lw_at lw_m1 31 rfl) rfl
theorem q54 : (Jvm.Cond.laysFinal "GlobalTree" "GlobalTree" "keys" "[I") ∈ lw_all := lw_g (lw_at lw_m1 32 rfl) rfl
theorem q55 : (Jvm.Cond.soleField "GlobalTree" "keys") ∈ lw_all := lw_g (lw_at lw_m1 33 rfl) rfl
theorem q56 : (Jvm.Cond.laysFinal "GlobalTree" "GlobalTree" "values" "[I") ∈ lw_all := lw_g (lw_at lw_m1 34 rfl) rfl
theorem q57 : (Jvm.Cond.soleField "GlobalTree" "values") ∈ lw_all := lw_g (lw_at lw_m1 35 rfl) rfl
theorem q58 : (Jvm.Cond.lays "GlobalTree" "GlobalTree" "total" "I") ∈ lw_all := lw_g (lw_at lw_m1 36 rfl) rfl
theorem q59 : (Jvm.Cond.soleField "GlobalTree" "total") ∈ lw_all := lw_g (lw_at lw_m1 37 rfl) rfl
theorem q60 : (Jvm.Cond.lays "GlobalTree" "GlobalTree" "leaf" "I") ∈ lw_all := lw_g (lw_at lw_m1 38 rfl) rfl
theorem q61 : (Jvm.Cond.soleField "GlobalTree" "leaf") ∈ lw_all := lw_g (lw_at lw_m1 39 rfl) rfl
theorem q62 : (Jvm.Cond.lays "GlobalTree" "GlobalTree" "slot" "I") ∈ lw_all := lw_g (lw_at lw_m1 40 rfl) rfl
theorem q63 : (Jvm.Cond.soleField "GlobalTree" "slot") ∈ lw_all := lw_g (lw_at lw_m1 41 rfl) rfl
theorem q64 : (Jvm.Cond.laysFinal "GlobalTree" "GlobalTree" "movedKey" "[I") ∈ lw_all := lw_g (lw_at lw_m1 42 rfl) rfl
theorem q65 : (Jvm.Cond.soleField "GlobalTree" "movedKey") ∈ lw_all := lw_g (lw_at lw_m1 43 rfl) rfl
theorem q66 : (Jvm.Cond.laysFinal "GlobalTree" "GlobalTree" "movedValue" "[I") ∈ lw_all := lw_g (lw_at lw_m1 44 rfl) rfl
theorem q67 : (Jvm.Cond.soleField "GlobalTree" "movedValue") ∈ lw_all := lw_g (lw_at lw_m1 45 rfl) rfl
theorem q68 : (Jvm.Cond.laysFinal "GlobalTree" "GlobalTree" "packedKey" "[I") ∈ lw_all := lw_g (lw_at lw_m1 46 rfl) rfl
theorem q69 : (Jvm.Cond.soleField "GlobalTree" "packedKey") ∈ lw_all := lw_g (lw_at lw_m1 47 rfl) rfl
theorem q70 : (Jvm.Cond.laysFinal "GlobalTree" "GlobalTree" "packedValue" "[I") ∈ lw_all := lw_g (lw_at lw_m1 48 rfl) rfl
theorem q71 : (Jvm.Cond.soleField "GlobalTree" "packedValue") ∈ lw_all := lw_g (lw_at lw_m1 49 rfl) rfl
theorem q72 : (Jvm.Cond.superclass "GlobalTree" "java/lang/Object") ∈ lw_all := lw_g (lw_at lw_m1 50 rfl) rfl
theorem q75 : (Jvm.Cond.instanceMethod ({ cls := "GlobalTree", name := "down", desc := "(I)I" } : Jvm.MethodName)) ∈ lw_all := lw_g (lw_at lw_m1 53 rfl) rfl
theorem q76 : (Jvm.Cond.selects "GlobalTree" ({ cls := "GlobalTree", name := "down", desc := "(I)I" } : Jvm.MethodName) ({ cls := "GlobalTree", name := "down", desc := "(I)I" } : Jvm.MethodName)) ∈ lw_all := lw_g (lw_at lw_m1 54 rfl) rfl
theorem q77 : (Jvm.Cond.code ({ cls := "GlobalTree", name := "down", desc := "(I)I" } : Jvm.MethodName) prog_1_method_3_code (2 : Nat) (Option.some Jvm.ClassFile.FieldType.int)) ∈ lw_all := lw_g (lw_at lw_m1 55 rfl) rfl
theorem q78 : (Jvm.Cond.methodLink "GlobalTree" (38 : Nat) ({ cls := "GlobalTree", name := "bad", desc := "(I)Z" } : Jvm.MethodName)) ∈ lw_all := lw_g (lw_at lw_m1 56 rfl) rfl
theorem q79 : (Jvm.Cond.static ({ cls := "GlobalTree", name := "bad", desc := "(I)Z" } : Jvm.MethodName)) ∈ lw_all := lw_g (lw_at lw_m1 57 rfl) rfl
theorem q80 : (Jvm.Cond.code ({ cls := "GlobalTree", name := "bad", desc := "(I)Z" } : Jvm.MethodName) prog_1_method_2_code (1 : Nat) (Option.some Jvm.ClassFile.FieldType.boolean)) ∈ lw_all := lw_g (lw_at lw_m1 58 rfl) rfl
theorem q82 : (Jvm.Cond.instanceMethod ({ cls := "GlobalTree", name := "up", desc := "()I" } : Jvm.MethodName)) ∈ lw_all := lw_g (lw_at lw_m1 60 rfl) rfl
theorem q83 : (Jvm.Cond.selects "GlobalTree" ({ cls := "GlobalTree", name := "up", desc := "()I" } : Jvm.MethodName) ({ cls := "GlobalTree", name := "up", desc := "()I" } : Jvm.MethodName)) ∈ lw_all := lw_g (lw_at lw_m1 61 rfl) rfl
theorem q84 : (Jvm.Cond.code ({ cls := "GlobalTree", name := "up", desc := "()I" } : Jvm.MethodName) prog_1_method_4_code (1 : Nat) (Option.some Jvm.ClassFile.FieldType.int)) ∈ lw_all := lw_g (lw_at lw_m1 62 rfl) rfl
theorem q86 : (Jvm.Cond.instanceMethod ({ cls := "GlobalTree", name := "turn", desc := "(I)I" } : Jvm.MethodName)) ∈ lw_all := lw_g (lw_at lw_m1 64 rfl) rfl
theorem q87 : (Jvm.Cond.selects "GlobalTree" ({ cls := "GlobalTree", name := "turn", desc := "(I)I" } : Jvm.MethodName) ({ cls := "GlobalTree", name := "turn", desc := "(I)I" } : Jvm.MethodName)) ∈ lw_all := lw_g (lw_at lw_m1 65 rfl) rfl
theorem q88 : (Jvm.Cond.code ({ cls := "GlobalTree", name := "turn", desc := "(I)I" } : Jvm.MethodName) prog_1_method_5_code (3 : Nat) (Option.some Jvm.ClassFile.FieldType.int)) ∈ lw_all := lw_g (lw_at lw_m1 66 rfl) rfl
theorem q90 : (Jvm.Cond.instanceMethod ({ cls := "GlobalTree", name := "set", desc := "(I)I" } : Jvm.MethodName)) ∈ lw_all := lw_g (lw_at lw_m1 68 rfl) rfl
theorem q91 : (Jvm.Cond.selects "GlobalTree" ({ cls := "GlobalTree", name := "set", desc := "(I)I" } : Jvm.MethodName) ({ cls := "GlobalTree", name := "set", desc := "(I)I" } : Jvm.MethodName)) ∈ lw_all := lw_g (lw_at lw_m1 69 rfl) rfl
theorem q92 : (Jvm.Cond.code ({ cls := "GlobalTree", name := "set", desc := "(I)I" } : Jvm.MethodName) prog_1_method_21_code (4 : Nat) (Option.some Jvm.ClassFile.FieldType.int)) ∈ lw_all := lw_g (lw_at lw_m1 70 rfl) rfl
theorem q93 : (Jvm.Cond.methodLink "GlobalTree" (50 : Nat) ({ cls := "GlobalTree", name := "keyOf", desc := "(I)I" } : Jvm.MethodName)) ∈ lw_all := lw_g (lw_at lw_m1 71 rfl) rfl
theorem q94 : (Jvm.Cond.privateMethod ({ cls := "GlobalTree", name := "keyOf", desc := "(I)I" } : Jvm.MethodName)) ∈ lw_tbl := lw_at lw_m1 72 rfl
theorem q95 : (Jvm.Cond.instanceMethod ({ cls := "GlobalTree", name := "keyOf", desc := "(I)I" } : Jvm.MethodName)) ∈ lw_all := lw_g (lw_at lw_m1 73 rfl) rfl
theorem q96 : (Jvm.Cond.code ({ cls := "GlobalTree", name := "keyOf", desc := "(I)I" } : Jvm.MethodName) prog_1_method_7_code (4 : Nat) (Option.some Jvm.ClassFile.FieldType.int)) ∈ lw_all := lw_g (lw_at lw_m1 74 rfl) rfl
theorem q97 : (Jvm.Cond.methodLink "GlobalTree" (45 : Nat) ({ cls := "GlobalTree", name := "unit", desc := "(I)I" } : Jvm.MethodName)) ∈ lw_all := lw_g (lw_at lw_m1 75 rfl) rfl
theorem q98 : (Jvm.Cond.static ({ cls := "GlobalTree", name := "unit", desc := "(I)I" } : Jvm.MethodName)) ∈ lw_all := lw_g (lw_at lw_m1 76 rfl) rfl
theorem q99 : (Jvm.Cond.code ({ cls := "GlobalTree", name := "unit", desc := "(I)I" } : Jvm.MethodName) prog_1_method_6_code (1 : Nat) (Option.some Jvm.ClassFile.FieldType.int)) ∈ lw_all := lw_g (lw_at lw_m1 77 rfl) rfl
theorem q100 : (Jvm.Cond.methodLink "GlobalTree" (83 : Nat) ({ cls := "GlobalTree", name := "present", desc := "(I)Z" } : Jvm.MethodName)) ∈ lw_all := lw_g (lw_at lw_m1 78 rfl) rfl
theorem q101 : (Jvm.Cond.privateMethod ({ cls := "GlobalTree", name := "present", desc := "(I)Z" } : Jvm.MethodName)) ∈ lw_tbl := lw_at lw_m1 79 rfl
theorem q102 : (Jvm.Cond.instanceMethod ({ cls := "GlobalTree", name := "present", desc := "(I)Z" } : Jvm.MethodName)) ∈ lw_all := lw_g (lw_at lw_m1 80 rfl) rfl
theorem q103 : (Jvm.Cond.code ({ cls := "GlobalTree", name := "present", desc := "(I)Z" } : Jvm.MethodName) prog_1_method_12_code (3 : Nat) (Option.some Jvm.ClassFile.FieldType.boolean)) ∈ lw_all := lw_g (lw_at lw_m1 81 rfl) rfl
theorem q104 : (Jvm.Cond.methodLink "GlobalTree" (59 : Nat) ({ cls := "GlobalTree", name := "seek", desc := "(I)V" } : Jvm.MethodName)) ∈ lw_all := lw_g (lw_at lw_m1 82 rfl) rfl
theorem q105 : (Jvm.Cond.privateMethod ({ cls := "GlobalTree", name := "seek", desc := "(I)V" } : Jvm.MethodName)) ∈ lw_tbl := lw_at lw_m1 83 rfl
theorem q106 : (Jvm.Cond.instanceMethod ({ cls := "GlobalTree", name := "seek", desc := "(I)V" } : Jvm.MethodName)) ∈ lw_all := lw_g (lw_at lw_m1 84 rfl) rfl
theorem q107 : (Jvm.Cond.code ({ cls := "GlobalTree", name := "seek", desc := "(I)V" } : Jvm.MethodName) prog_1_method_10_code (5 : Nat) (Option.none : Option Jvm.ClassFile.FieldType)) ∈ lw_all := lw_g (lw_at lw_m1 85 rfl) rfl
theorem q108 : (Jvm.Cond.methodLink "GlobalTree" (63 : Nat) ({ cls := "GlobalTree", name := "found", desc := "()I" } : Jvm.MethodName)) ∈ lw_all := lw_g (lw_at lw_m1 86 rfl) rfl
theorem q109 : (Jvm.Cond.privateMethod ({ cls := "GlobalTree", name := "found", desc := "()I" } : Jvm.MethodName)) ∈ lw_tbl := lw_at lw_m1 87 rfl
theorem q110 : (Jvm.Cond.instanceMethod ({ cls := "GlobalTree", name := "found", desc := "()I" } : Jvm.MethodName)) ∈ lw_all := lw_g (lw_at lw_m1 88 rfl) rfl
theorem q111 : (Jvm.Cond.code ({ cls := "GlobalTree", name := "found", desc := "()I" } : Jvm.MethodName) prog_1_method_11_code (1 : Nat) (Option.some Jvm.ClassFile.FieldType.int)) ∈ lw_all := lw_g (lw_at lw_m1 89 rfl) rfl
theorem q112 : (Jvm.Cond.constant "GlobalTree" (49 : Nat) (2097152 : Int32)) ∈ lw_all := lw_g (lw_at lw_m1 90 rfl) rfl
theorem q113 : (Jvm.Cond.methodLink "GlobalTree" (89 : Nat) ({ cls := "GlobalTree", name := "put", desc := "(II)V" } : Jvm.MethodName)) ∈ lw_all := lw_g (lw_at lw_m1 91 rfl) rfl
theorem q114 : (Jvm.Cond.privateMethod ({ cls := "GlobalTree", name := "put", desc := "(II)V" } : Jvm.MethodName)) ∈ lw_tbl := lw_at lw_m1 92 rfl
theorem q115 : (Jvm.Cond.instanceMethod ({ cls := "GlobalTree", name := "put", desc := "(II)V" } : Jvm.MethodName)) ∈ lw_all := lw_g (lw_at lw_m1 93 rfl) rfl
theorem q116 : (Jvm.Cond.code ({ cls := "GlobalTree", name := "put", desc := "(II)V" } : Jvm.MethodName) prog_1_method_20_code (4 : Nat) (Option.none : Option Jvm.ClassFile.FieldType)) ∈ lw_all := lw_g (lw_at lw_m1 94 rfl) rfl
theorem q117 : (Jvm.Cond.methodLink "GlobalTree" (86 : Nat) ({ cls := "GlobalTree", name := "insert", desc := "(II)V" } : Jvm.MethodName)) ∈ lw_all := lw_g (lw_at lw_m1 95 rfl) rfl
theorem q118 : (Jvm.Cond.privateMethod ({ cls := "GlobalTree", name := "insert", desc := "(II)V" } : Jvm.MethodName)) ∈ lw_tbl := lw_at lw_m1 96 rfl
theorem q119 : (Jvm.Cond.instanceMethod ({ cls := "GlobalTree", name := "insert", desc := "(II)V" } : Jvm.MethodName)) ∈ lw_all := lw_g (lw_at lw_m1 97 rfl) rfl
theorem q120 : (Jvm.Cond.code ({ cls := "GlobalTree", name := "insert", desc := "(II)V" } : Jvm.MethodName) prog_1_method_18_code (4 : Nat) (Option.none : Option Jvm.ClassFile.FieldType)) ∈ lw_all := lw_g (lw_at lw_m1 98 rfl) rfl
theorem q121 : (Jvm.Cond.methodLink "GlobalTree" (77 : Nat) ({ cls := "GlobalTree", name := "seekRoom", desc := "(I)V" } : Jvm.MethodName)) ∈ lw_all := lw_g (lw_at lw_m1 99 rfl) rfl
theorem q122 : (Jvm.Cond.privateMethod ({ cls := "GlobalTree", name := "seekRoom", desc := "(I)V" } : Jvm.MethodName)) ∈ lw_tbl := lw_at lw_m1 100 rfl
theorem q123 : (Jvm.Cond.instanceMethod ({ cls := "GlobalTree", name := "seekRoom", desc := "(I)V" } : Jvm.MethodName)) ∈ lw_all := lw_g (lw_at lw_m1 101 rfl) rfl
theorem q124 : (Jvm.Cond.code ({ cls := "GlobalTree", name := "seekRoom", desc := "(I)V" } : Jvm.MethodName) prog_1_method_17_code (2 : Nat) (Option.none : Option Jvm.ClassFile.FieldType)) ∈ lw_all := lw_g (lw_at lw_m1 102 rfl) rfl
theorem q125 : (Jvm.Cond.methodLink "GlobalTree" (71 : Nat) ({ cls := "GlobalTree", name := "repack", desc := "()V" } : Jvm.MethodName)) ∈ lw_all := lw_g (lw_at lw_m1 103 rfl) rfl
theorem q126 : (Jvm.Cond.privateMethod ({ cls := "GlobalTree", name := "repack", desc := "()V" } : Jvm.MethodName)) ∈ lw_tbl := lw_at lw_m1 104 rfl
theorem q127 : (Jvm.Cond.instanceMethod ({ cls := "GlobalTree", name := "repack", desc := "()V" } : Jvm.MethodName)) ∈ lw_all := lw_g (lw_at lw_m1 105 rfl) rfl
theorem q128 : (Jvm.Cond.code ({ cls := "GlobalTree", name := "repack", desc := "()V" } : Jvm.MethodName) prog_1_method_14_code (4 : Nat) (Option.none : Option Jvm.ClassFile.FieldType)) ∈ lw_all := lw_g (lw_at lw_m1 106 rfl) rfl
theorem q129 : (Jvm.Cond.methodLink "GlobalTree" (74 : Nat) ({ cls := "GlobalTree", name := "splitLeaf", desc := "(I)V" } : Jvm.MethodName)) ∈ lw_all := lw_g (lw_at lw_m1 107 rfl) rfl
theorem q130 : (Jvm.Cond.privateMethod ({ cls := "GlobalTree", name := "splitLeaf", desc := "(I)V" } : Jvm.MethodName)) ∈ lw_tbl := lw_at lw_m1 108 rfl
theorem q131 : (Jvm.Cond.instanceMethod ({ cls := "GlobalTree", name := "splitLeaf", desc := "(I)V" } : Jvm.MethodName)) ∈ lw_all := lw_g (lw_at lw_m1 109 rfl) rfl
theorem q132 : (Jvm.Cond.code ({ cls := "GlobalTree", name := "splitLeaf", desc := "(I)V" } : Jvm.MethodName) prog_1_method_16_code (3 : Nat) (Option.none : Option Jvm.ClassFile.FieldType)) ∈ lw_all := lw_g (lw_at lw_m1 110 rfl) rfl
theorem q133 : (Jvm.Cond.methodLink "GlobalTree" (67 : Nat) ({ cls := "GlobalTree", name := "copyLeaf", desc := "(II)V" } : Jvm.MethodName)) ∈ lw_all := lw_g (lw_at lw_m1 111 rfl) rfl
theorem q134 : (Jvm.Cond.privateMethod ({ cls := "GlobalTree", name := "copyLeaf", desc := "(II)V" } : Jvm.MethodName)) ∈ lw_tbl := lw_at lw_m1 112 rfl
theorem q135 : (Jvm.Cond.instanceMethod ({ cls := "GlobalTree", name := "copyLeaf", desc := "(II)V" } : Jvm.MethodName)) ∈ lw_all := lw_g (lw_at lw_m1 113 rfl) rfl
theorem q136 : (Jvm.Cond.code ({ cls := "GlobalTree", name := "copyLeaf", desc := "(II)V" } : Jvm.MethodName) prog_1_method_15_code (4 : Nat) (Option.none : Option Jvm.ClassFile.FieldType)) ∈ lw_all := lw_g (lw_at lw_m1 114 rfl) rfl
theorem q138 : (Jvm.Cond.instanceMethod ({ cls := "GlobalTree", name := "increment", desc := "(I)I" } : Jvm.MethodName)) ∈ lw_all := lw_g (lw_at lw_m1 116 rfl) rfl
theorem q139 : (Jvm.Cond.selects "GlobalTree" ({ cls := "GlobalTree", name := "increment", desc := "(I)I" } : Jvm.MethodName) ({ cls := "GlobalTree", name := "increment", desc := "(I)I" } : Jvm.MethodName)) ∈ lw_all := lw_g (lw_at lw_m1 117 rfl) rfl
theorem q140 : (Jvm.Cond.code ({ cls := "GlobalTree", name := "increment", desc := "(I)I" } : Jvm.MethodName) prog_1_method_22_code (5 : Nat) (Option.some Jvm.ClassFile.FieldType.int)) ∈ lw_all := lw_g (lw_at lw_m1 118 rfl) rfl
theorem q142 : (Jvm.Cond.instanceMethod ({ cls := "GlobalTree", name := "kill", desc := "()I" } : Jvm.MethodName)) ∈ lw_all := lw_g (lw_at lw_m1 120 rfl) rfl
theorem q143 : (Jvm.Cond.selects "GlobalTree" ({ cls := "GlobalTree", name := "kill", desc := "()I" } : Jvm.MethodName) ({ cls := "GlobalTree", name := "kill", desc := "()I" } : Jvm.MethodName)) ∈ lw_all := lw_g (lw_at lw_m1 121 rfl) rfl
theorem q144 : (Jvm.Cond.code ({ cls := "GlobalTree", name := "kill", desc := "()I" } : Jvm.MethodName) prog_1_method_23_code (5 : Nat) (Option.some Jvm.ClassFile.FieldType.int)) ∈ lw_all := lw_g (lw_at lw_m1 122 rfl) rfl
theorem q145 : (Jvm.Cond.methodLink "GlobalTree" (92 : Nat) ({ cls := "GlobalTree", name := "endOf", desc := "(I)I" } : Jvm.MethodName)) ∈ lw_all := lw_g (lw_at lw_m1 123 rfl) rfl
theorem q146 : (Jvm.Cond.privateMethod ({ cls := "GlobalTree", name := "endOf", desc := "(I)I" } : Jvm.MethodName)) ∈ lw_tbl := lw_at lw_m1 124 rfl
theorem q147 : (Jvm.Cond.instanceMethod ({ cls := "GlobalTree", name := "endOf", desc := "(I)I" } : Jvm.MethodName)) ∈ lw_all := lw_g (lw_at lw_m1 125 rfl) rfl
theorem q148 : (Jvm.Cond.code ({ cls := "GlobalTree", name := "endOf", desc := "(I)I" } : Jvm.MethodName) prog_1_method_8_code (2 : Nat) (Option.some Jvm.ClassFile.FieldType.int)) ∈ lw_all := lw_g (lw_at lw_m1 126 rfl) rfl
theorem q149 : (Jvm.Cond.methodLink "GlobalTree" (95 : Nat) ({ cls := "GlobalTree", name := "removeFound", desc := "()V" } : Jvm.MethodName)) ∈ lw_all := lw_g (lw_at lw_m1 127 rfl) rfl
theorem q150 : (Jvm.Cond.privateMethod ({ cls := "GlobalTree", name := "removeFound", desc := "()V" } : Jvm.MethodName)) ∈ lw_tbl := lw_at lw_m1 128 rfl
theorem q151 : (Jvm.Cond.instanceMethod ({ cls := "GlobalTree", name := "removeFound", desc := "()V" } : Jvm.MethodName)) ∈ lw_all := lw_g (lw_at lw_m1 129 rfl) rfl
theorem q152 : (Jvm.Cond.code ({ cls := "GlobalTree", name := "removeFound", desc := "()V" } : Jvm.MethodName) prog_1_method_19_code (2 : Nat) (Option.none : Option Jvm.ClassFile.FieldType)) ∈ lw_all := lw_g (lw_at lw_m1 130 rfl) rfl
theorem q154 : (Jvm.Cond.instanceMethod ({ cls := "GlobalTree", name := "merge", desc := "(I)I" } : Jvm.MethodName)) ∈ lw_all := lw_g (lw_at lw_m1 132 rfl) rfl
theorem q155 : (Jvm.Cond.selects "GlobalTree" ({ cls := "GlobalTree", name := "merge", desc := "(I)I" } : Jvm.MethodName) ({ cls := "GlobalTree", name := "merge", desc := "(I)I" } : Jvm.MethodName)) ∈ lw_all := lw_g (lw_at lw_m1 133 rfl) rfl
theorem q156 : (Jvm.Cond.code ({ cls := "GlobalTree", name := "merge", desc := "(I)I" } : Jvm.MethodName) prog_1_method_24_code (9 : Nat) (Option.some Jvm.ClassFile.FieldType.int)) ∈ lw_all := lw_g (lw_at lw_m1 134 rfl) rfl
theorem q158 : (Jvm.Cond.instanceMethod ({ cls := "GlobalTree", name := "data", desc := "()I" } : Jvm.MethodName)) ∈ lw_all := lw_g (lw_at lw_m1 136 rfl) rfl
theorem q159 : (Jvm.Cond.selects "GlobalTree" ({ cls := "GlobalTree", name := "data", desc := "()I" } : Jvm.MethodName) ({ cls := "GlobalTree", name := "data", desc := "()I" } : Jvm.MethodName)) ∈ lw_all := lw_g (lw_at lw_m1 137 rfl) rfl
theorem q160 : (Jvm.Cond.code ({ cls := "GlobalTree", name := "data", desc := "()I" } : Jvm.MethodName) prog_1_method_26_code (5 : Nat) (Option.some Jvm.ClassFile.FieldType.int)) ∈ lw_all := lw_g (lw_at lw_m1 138 rfl) rfl
theorem q161 : (Jvm.Cond.methodLink "GlobalTree" (98 : Nat) ({ cls := "GlobalTree", name := "keyBehind", desc := "()I" } : Jvm.MethodName)) ∈ lw_all := lw_g (lw_at lw_m1 139 rfl) rfl
theorem q162 : (Jvm.Cond.privateMethod ({ cls := "GlobalTree", name := "keyBehind", desc := "()I" } : Jvm.MethodName)) ∈ lw_tbl := lw_at lw_m1 140 rfl
theorem q163 : (Jvm.Cond.instanceMethod ({ cls := "GlobalTree", name := "keyBehind", desc := "()I" } : Jvm.MethodName)) ∈ lw_all := lw_g (lw_at lw_m1 141 rfl) rfl
theorem q164 : (Jvm.Cond.code ({ cls := "GlobalTree", name := "keyBehind", desc := "()I" } : Jvm.MethodName) prog_1_method_25_code (2 : Nat) (Option.some Jvm.ClassFile.FieldType.int)) ∈ lw_all := lw_g (lw_at lw_m1 142 rfl) rfl
theorem q166 : (Jvm.Cond.instanceMethod ({ cls := "GlobalTree", name := "value", desc := "()I" } : Jvm.MethodName)) ∈ lw_all := lw_g (lw_at lw_m1 144 rfl) rfl
theorem q167 : (Jvm.Cond.selects "GlobalTree" ({ cls := "GlobalTree", name := "value", desc := "()I" } : Jvm.MethodName) ({ cls := "GlobalTree", name := "value", desc := "()I" } : Jvm.MethodName)) ∈ lw_all := lw_g (lw_at lw_m1 145 rfl) rfl
theorem q168 : (Jvm.Cond.code ({ cls := "GlobalTree", name := "value", desc := "()I" } : Jvm.MethodName) prog_1_method_27_code (3 : Nat) (Option.some Jvm.ClassFile.FieldType.int)) ∈ lw_all := lw_g (lw_at lw_m1 146 rfl) rfl
theorem q170 : (Jvm.Cond.instanceMethod ({ cls := "GlobalTree", name := "next", desc := "()I" } : Jvm.MethodName)) ∈ lw_all := lw_g (lw_at lw_m1 148 rfl) rfl
theorem q171 : (Jvm.Cond.selects "GlobalTree" ({ cls := "GlobalTree", name := "next", desc := "()I" } : Jvm.MethodName) ({ cls := "GlobalTree", name := "next", desc := "()I" } : Jvm.MethodName)) ∈ lw_all := lw_g (lw_at lw_m1 149 rfl) rfl
theorem q172 : (Jvm.Cond.code ({ cls := "GlobalTree", name := "next", desc := "()I" } : Jvm.MethodName) prog_1_method_28_code (3 : Nat) (Option.some Jvm.ClassFile.FieldType.int)) ∈ lw_all := lw_g (lw_at lw_m1 150 rfl) rfl
theorem q173 : (Jvm.Cond.methodLink "GlobalTree" (101 : Nat) ({ cls := "GlobalTree", name := "subscriptAt", desc := "(II)I" } : Jvm.MethodName)) ∈ lw_all := lw_g (lw_at lw_m1 151 rfl) rfl
theorem q174 : (Jvm.Cond.static ({ cls := "GlobalTree", name := "subscriptAt", desc := "(II)I" } : Jvm.MethodName)) ∈ lw_all := lw_g (lw_at lw_m1 152 rfl) rfl
theorem q175 : (Jvm.Cond.code ({ cls := "GlobalTree", name := "subscriptAt", desc := "(II)I" } : Jvm.MethodName) prog_1_method_9_code (2 : Nat) (Option.some Jvm.ClassFile.FieldType.int)) ∈ lw_all := lw_g (lw_at lw_m1 153 rfl) rfl
theorem q177 : (Jvm.Cond.instanceMethod ({ cls := "GlobalTree", name := "previous", desc := "()I" } : Jvm.MethodName)) ∈ lw_all := lw_g (lw_at lw_m1 155 rfl) rfl
theorem q178 : (Jvm.Cond.selects "GlobalTree" ({ cls := "GlobalTree", name := "previous", desc := "()I" } : Jvm.MethodName) ({ cls := "GlobalTree", name := "previous", desc := "()I" } : Jvm.MethodName)) ∈ lw_all := lw_g (lw_at lw_m1 156 rfl) rfl
theorem q179 : (Jvm.Cond.code ({ cls := "GlobalTree", name := "previous", desc := "()I" } : Jvm.MethodName) prog_1_method_29_code (4 : Nat) (Option.some Jvm.ClassFile.FieldType.int)) ∈ lw_all := lw_g (lw_at lw_m1 157 rfl) rfl
theorem q180 : (Jvm.Cond.methodLink "GlobalTree" (105 : Nat) ({ cls := "GlobalTree", name := "keyBefore", desc := "(I)I" } : Jvm.MethodName)) ∈ lw_all := lw_g (lw_at lw_m1 158 rfl) rfl
theorem q181 : (Jvm.Cond.privateMethod ({ cls := "GlobalTree", name := "keyBefore", desc := "(I)I" } : Jvm.MethodName)) ∈ lw_tbl := lw_at lw_m1 159 rfl
theorem q182 : (Jvm.Cond.instanceMethod ({ cls := "GlobalTree", name := "keyBefore", desc := "(I)I" } : Jvm.MethodName)) ∈ lw_all := lw_g (lw_at lw_m1 160 rfl) rfl
theorem q183 : (Jvm.Cond.code ({ cls := "GlobalTree", name := "keyBefore", desc := "(I)I" } : Jvm.MethodName) prog_1_method_13_code (2 : Nat) (Option.some Jvm.ClassFile.FieldType.int)) ∈ lw_all := lw_g (lw_at lw_m1 161 rfl) rfl
theorem q185 : (Jvm.Cond.instanceMethod ({ cls := "GlobalTree", name := "first", desc := "()I" } : Jvm.MethodName)) ∈ lw_all := lw_g (lw_at lw_m1 163 rfl) rfl
theorem q186 : (Jvm.Cond.selects "GlobalTree" ({ cls := "GlobalTree", name := "first", desc := "()I" } : Jvm.MethodName) ({ cls := "GlobalTree", name := "first", desc := "()I" } : Jvm.MethodName)) ∈ lw_all := lw_g (lw_at lw_m1 164 rfl) rfl
theorem q187 : (Jvm.Cond.code ({ cls := "GlobalTree", name := "first", desc := "()I" } : Jvm.MethodName) prog_1_method_30_code (2 : Nat) (Option.some Jvm.ClassFile.FieldType.int)) ∈ lw_all := lw_g (lw_at lw_m1 165 rfl) rfl
theorem q189 : (Jvm.Cond.instanceMethod ({ cls := "GlobalTree", name := "query", desc := "()I" } : Jvm.MethodName)) ∈ lw_all := lw_g (lw_at lw_m1 167 rfl) rfl
theorem q190 : (Jvm.Cond.selects "GlobalTree" ({ cls := "GlobalTree", name := "query", desc := "()I" } : Jvm.MethodName) ({ cls := "GlobalTree", name := "query", desc := "()I" } : Jvm.MethodName)) ∈ lw_all := lw_g (lw_at lw_m1 168 rfl) rfl
theorem q191 : (Jvm.Cond.code ({ cls := "GlobalTree", name := "query", desc := "()I" } : Jvm.MethodName) prog_1_method_31_code (2 : Nat) (Option.some Jvm.ClassFile.FieldType.int)) ∈ lw_all := lw_g (lw_at lw_m1 169 rfl) rfl
theorem q193 : (Jvm.Cond.instanceMethod ({ cls := "GlobalTree", name := "before", desc := "()I" } : Jvm.MethodName)) ∈ lw_all := lw_g (lw_at lw_m1 171 rfl) rfl
theorem q194 : (Jvm.Cond.selects "GlobalTree" ({ cls := "GlobalTree", name := "before", desc := "()I" } : Jvm.MethodName) ({ cls := "GlobalTree", name := "before", desc := "()I" } : Jvm.MethodName)) ∈ lw_all := lw_g (lw_at lw_m1 172 rfl) rfl
theorem q195 : (Jvm.Cond.code ({ cls := "GlobalTree", name := "before", desc := "()I" } : Jvm.MethodName) prog_1_method_32_code (4 : Nat) (Option.some Jvm.ClassFile.FieldType.int)) ∈ lw_all := lw_g (lw_at lw_m1 173 rfl) rfl
theorem q197 : (Jvm.Cond.instanceMethod ({ cls := "GlobalTree", name := "count", desc := "()I" } : Jvm.MethodName)) ∈ lw_all := lw_g (lw_at lw_m1 175 rfl) rfl
theorem q198 : (Jvm.Cond.selects "GlobalTree" ({ cls := "GlobalTree", name := "count", desc := "()I" } : Jvm.MethodName) ({ cls := "GlobalTree", name := "count", desc := "()I" } : Jvm.MethodName)) ∈ lw_all := lw_g (lw_at lw_m1 176 rfl) rfl
theorem q199 : (Jvm.Cond.code ({ cls := "GlobalTree", name := "count", desc := "()I" } : Jvm.MethodName) prog_1_method_33_code (1 : Nat) (Option.some Jvm.ClassFile.FieldType.int)) ∈ lw_all := lw_g (lw_at lw_m1 177 rfl) rfl
theorem in_X0 : ∀ w ∈ wsX00, w ∈ lw_all := lw_in wsX00 [46, 48, 50, 52, 54, 56, 58, 60, 62, 64, 66, 68, 70] (by decide +kernel) (by decide +kernel)
end
section
/-! GlobalTreeModel -/
set_option maxRecDepth 100000
def RX1 : String := "GlobalTreeModel"
def TX1 : u_T := fun k => match k with
  | 0 => ("GlobalTreeModel", "lists", "[I", true)
  | 1 => ("GlobalTreeModel", "lengths", "[I", true)
  | 2 => ("GlobalTreeModel", "values", "[I", true)
  | 3 => ("GlobalTreeModel", "nodes", "I", false)
  | 4 => ("GlobalTreeModel", "pointer", "[I", true)
  | _ => ("GlobalTreeModel", "depth", "I", false)
def tyX1 : Nat → FieldType := fun k => match k with
  | 0 => .array .int
  | 1 => .array .int
  | 2 => .array .int
  | 3 => .int
  | 4 => .array .int
  | _ => .int
abbrev wsX10 : List Cond := u_ws RX1 TX1 6
theorem nmX1 : ∀ a, a < 6 → ∀ b, b < 6 → a ≠ b → (TX1 a).2.1 ≠ (TX1 b).2.1 := by decide +kernel
theorem tyX1_ok : ∀ k, k < 6 → parseFieldDescriptor (TX1 k).2.2.1 = some (tyX1 k) := by decide +kernel
abbrev cX1_init : ByteArray := prog_3_method_1_code
def yX1_init : MethodName := ⟨RX1, "<init>", "()V"⟩
theorem dX1_init_0 : decode cX1_init 0 = .ok (.aload_n 0, 1) := by decide +kernel
theorem dX1_init_1 : decode cX1_init 1 = .ok (.invokespecial 1, 3) := by decide +kernel
theorem dX1_init_4 : decode cX1_init 4 = .ok (.aload_n 0, 1) := by decide +kernel
theorem dX1_init_5 : decode cX1_init 5 = .ok (.sipush 180, 3) := by decide +kernel
theorem dX1_init_8 : decode cX1_init 8 = .ok (.newarray .int, 2) := by decide +kernel
theorem dX1_init_10 : decode cX1_init 10 = .ok (.putfield 7, 3) := by decide +kernel
theorem dX1_init_13 : decode cX1_init 13 = .ok (.aload_n 0, 1) := by decide +kernel
theorem dX1_init_14 : decode cX1_init 14 = .ok (.bipush 60, 2) := by decide +kernel
theorem dX1_init_16 : decode cX1_init 16 = .ok (.newarray .int, 2) := by decide +kernel
theorem dX1_init_18 : decode cX1_init 18 = .ok (.putfield 13, 3) := by decide +kernel
theorem dX1_init_21 : decode cX1_init 21 = .ok (.aload_n 0, 1) := by decide +kernel
theorem dX1_init_22 : decode cX1_init 22 = .ok (.bipush 60, 2) := by decide +kernel
theorem dX1_init_24 : decode cX1_init 24 = .ok (.newarray .int, 2) := by decide +kernel
theorem dX1_init_26 : decode cX1_init 26 = .ok (.putfield 16, 3) := by decide +kernel
theorem dX1_init_29 : decode cX1_init 29 = .ok (.aload_n 0, 1) := by decide +kernel
theorem dX1_init_30 : decode cX1_init 30 = .ok (.iconst 3, 1) := by decide +kernel
theorem dX1_init_31 : decode cX1_init 31 = .ok (.newarray .int, 2) := by decide +kernel
theorem dX1_init_33 : decode cX1_init 33 = .ok (.putfield 19, 3) := by decide +kernel
theorem dX1_init_36 : decode cX1_init 36 = .ok (.return_, 1) := by decide +kernel
abbrev cX1_down : ByteArray := prog_3_method_3_code
def yX1_down : MethodName := ⟨RX1, "down", "(I)I"⟩
theorem dX1_down_0 : decode cX1_down 0 = .ok (.aload_n 0, 1) := by decide +kernel
theorem dX1_down_1 : decode cX1_down 1 = .ok (.iload_n 1, 1) := by decide +kernel
theorem dX1_down_2 : decode cX1_down 2 = .ok (.invokevirtual 22, 3) := by decide +kernel
theorem dX1_down_5 : decode cX1_down 5 = .ok (.ifCond .ne 5, 3) := by decide +kernel
theorem dX1_down_8 : decode cX1_down 8 = .ok (.iconst (-1), 1) := by decide +kernel
theorem dX1_down_9 : decode cX1_down 9 = .ok (.ireturn, 1) := by decide +kernel
theorem dX1_down_10 : decode cX1_down 10 = .ok (.aload_n 0, 1) := by decide +kernel
theorem dX1_down_11 : decode cX1_down 11 = .ok (.getfield 26, 3) := by decide +kernel
theorem dX1_down_14 : decode cX1_down 14 = .ok (.iconst 3, 1) := by decide +kernel
theorem dX1_down_15 : decode cX1_down 15 = .ok (.if_icmp .ne 6, 3) := by decide +kernel
theorem dX1_down_18 : decode cX1_down 18 = .ok (.bipush (-2), 2) := by decide +kernel
theorem dX1_down_20 : decode cX1_down 20 = .ok (.ireturn, 1) := by decide +kernel
theorem dX1_down_21 : decode cX1_down 21 = .ok (.aload_n 0, 1) := by decide +kernel
theorem dX1_down_22 : decode cX1_down 22 = .ok (.getfield 19, 3) := by decide +kernel
theorem dX1_down_25 : decode cX1_down 25 = .ok (.aload_n 0, 1) := by decide +kernel
theorem dX1_down_26 : decode cX1_down 26 = .ok (.getfield 26, 3) := by decide +kernel
theorem dX1_down_29 : decode cX1_down 29 = .ok (.iload_n 1, 1) := by decide +kernel
theorem dX1_down_30 : decode cX1_down 30 = .ok (.iastore, 1) := by decide +kernel
theorem dX1_down_31 : decode cX1_down 31 = .ok (.aload_n 0, 1) := by decide +kernel
theorem dX1_down_32 : decode cX1_down 32 = .ok (.dup, 1) := by decide +kernel
theorem dX1_down_33 : decode cX1_down 33 = .ok (.getfield 26, 3) := by decide +kernel
theorem dX1_down_36 : decode cX1_down 36 = .ok (.iconst 1, 1) := by decide +kernel
theorem dX1_down_37 : decode cX1_down 37 = .ok (.iadd, 1) := by decide +kernel
theorem dX1_down_38 : decode cX1_down 38 = .ok (.putfield 26, 3) := by decide +kernel
theorem dX1_down_41 : decode cX1_down 41 = .ok (.aload_n 0, 1) := by decide +kernel
theorem dX1_down_42 : decode cX1_down 42 = .ok (.getfield 26, 3) := by decide +kernel
theorem dX1_down_45 : decode cX1_down 45 = .ok (.ireturn, 1) := by decide +kernel
abbrev cX1_isSubscript : ByteArray := prog_3_method_2_code
def yX1_isSubscript : MethodName := ⟨RX1, "isSubscript", "(I)Z"⟩
theorem dX1_isSubscript_0 : decode cX1_isSubscript 0 = .ok (.iload_n 1, 1) := by decide +kernel
theorem dX1_isSubscript_1 : decode cX1_isSubscript 1 = .ok (.bipush (-50), 2) := by decide +kernel
theorem dX1_isSubscript_3 : decode cX1_isSubscript 3 = .ok (.if_icmp .lt 13, 3) := by decide +kernel
theorem dX1_isSubscript_6 : decode cX1_isSubscript 6 = .ok (.iload_n 1, 1) := by decide +kernel
theorem dX1_isSubscript_7 : decode cX1_isSubscript 7 = .ok (.bipush 50, 2) := by decide +kernel
theorem dX1_isSubscript_9 : decode cX1_isSubscript 9 = .ok (.if_icmp .gt 7, 3) := by decide +kernel
theorem dX1_isSubscript_12 : decode cX1_isSubscript 12 = .ok (.iconst 1, 1) := by decide +kernel
theorem dX1_isSubscript_13 : decode cX1_isSubscript 13 = .ok (.goto 4, 3) := by decide +kernel
theorem dX1_isSubscript_16 : decode cX1_isSubscript 16 = .ok (.iconst 0, 1) := by decide +kernel
theorem dX1_isSubscript_17 : decode cX1_isSubscript 17 = .ok (.ireturn, 1) := by decide +kernel
abbrev cX1_up : ByteArray := prog_3_method_4_code
def yX1_up : MethodName := ⟨RX1, "up", "()I"⟩
theorem dX1_up_0 : decode cX1_up 0 = .ok (.aload_n 0, 1) := by decide +kernel
theorem dX1_up_1 : decode cX1_up 1 = .ok (.getfield 26, 3) := by decide +kernel
theorem dX1_up_4 : decode cX1_up 4 = .ok (.ifCond .ne 6, 3) := by decide +kernel
theorem dX1_up_7 : decode cX1_up 7 = .ok (.bipush (-3), 2) := by decide +kernel
theorem dX1_up_9 : decode cX1_up 9 = .ok (.ireturn, 1) := by decide +kernel
theorem dX1_up_10 : decode cX1_up 10 = .ok (.aload_n 0, 1) := by decide +kernel
theorem dX1_up_11 : decode cX1_up 11 = .ok (.dup, 1) := by decide +kernel
theorem dX1_up_12 : decode cX1_up 12 = .ok (.getfield 26, 3) := by decide +kernel
theorem dX1_up_15 : decode cX1_up 15 = .ok (.iconst 1, 1) := by decide +kernel
theorem dX1_up_16 : decode cX1_up 16 = .ok (.isub, 1) := by decide +kernel
theorem dX1_up_17 : decode cX1_up 17 = .ok (.putfield 26, 3) := by decide +kernel
theorem dX1_up_20 : decode cX1_up 20 = .ok (.aload_n 0, 1) := by decide +kernel
theorem dX1_up_21 : decode cX1_up 21 = .ok (.getfield 26, 3) := by decide +kernel
theorem dX1_up_24 : decode cX1_up 24 = .ok (.ireturn, 1) := by decide +kernel
abbrev cX1_turn : ByteArray := prog_3_method_5_code
def yX1_turn : MethodName := ⟨RX1, "turn", "(I)I"⟩
theorem dX1_turn_0 : decode cX1_turn 0 = .ok (.aload_n 0, 1) := by decide +kernel
theorem dX1_turn_1 : decode cX1_turn 1 = .ok (.getfield 26, 3) := by decide +kernel
theorem dX1_turn_4 : decode cX1_turn 4 = .ok (.ifCond .ne 6, 3) := by decide +kernel
theorem dX1_turn_7 : decode cX1_turn 7 = .ok (.bipush (-3), 2) := by decide +kernel
theorem dX1_turn_9 : decode cX1_turn 9 = .ok (.ireturn, 1) := by decide +kernel
theorem dX1_turn_10 : decode cX1_turn 10 = .ok (.aload_n 0, 1) := by decide +kernel
theorem dX1_turn_11 : decode cX1_turn 11 = .ok (.iload_n 1, 1) := by decide +kernel
theorem dX1_turn_12 : decode cX1_turn 12 = .ok (.invokevirtual 22, 3) := by decide +kernel
theorem dX1_turn_15 : decode cX1_turn 15 = .ok (.ifCond .ne 5, 3) := by decide +kernel
theorem dX1_turn_18 : decode cX1_turn 18 = .ok (.iconst (-1), 1) := by decide +kernel
theorem dX1_turn_19 : decode cX1_turn 19 = .ok (.ireturn, 1) := by decide +kernel
theorem dX1_turn_20 : decode cX1_turn 20 = .ok (.aload_n 0, 1) := by decide +kernel
theorem dX1_turn_21 : decode cX1_turn 21 = .ok (.getfield 19, 3) := by decide +kernel
theorem dX1_turn_24 : decode cX1_turn 24 = .ok (.aload_n 0, 1) := by decide +kernel
theorem dX1_turn_25 : decode cX1_turn 25 = .ok (.getfield 26, 3) := by decide +kernel
theorem dX1_turn_28 : decode cX1_turn 28 = .ok (.iconst 1, 1) := by decide +kernel
theorem dX1_turn_29 : decode cX1_turn 29 = .ok (.isub, 1) := by decide +kernel
theorem dX1_turn_30 : decode cX1_turn 30 = .ok (.iaload, 1) := by decide +kernel
theorem dX1_turn_31 : decode cX1_turn 31 = .ok (.istore_n 2, 1) := by decide +kernel
theorem dX1_turn_32 : decode cX1_turn 32 = .ok (.aload_n 0, 1) := by decide +kernel
theorem dX1_turn_33 : decode cX1_turn 33 = .ok (.getfield 19, 3) := by decide +kernel
theorem dX1_turn_36 : decode cX1_turn 36 = .ok (.aload_n 0, 1) := by decide +kernel
theorem dX1_turn_37 : decode cX1_turn 37 = .ok (.getfield 26, 3) := by decide +kernel
theorem dX1_turn_40 : decode cX1_turn 40 = .ok (.iconst 1, 1) := by decide +kernel
theorem dX1_turn_41 : decode cX1_turn 41 = .ok (.isub, 1) := by decide +kernel
theorem dX1_turn_42 : decode cX1_turn 42 = .ok (.iload_n 1, 1) := by decide +kernel
theorem dX1_turn_43 : decode cX1_turn 43 = .ok (.iastore, 1) := by decide +kernel
theorem dX1_turn_44 : decode cX1_turn 44 = .ok (.iload_n 2, 1) := by decide +kernel
theorem dX1_turn_45 : decode cX1_turn 45 = .ok (.ireturn, 1) := by decide +kernel
abbrev cX1_set : ByteArray := prog_3_method_8_code
def yX1_set : MethodName := ⟨RX1, "set", "(I)I"⟩
theorem dX1_set_0 : decode cX1_set 0 = .ok (.aload_n 0, 1) := by decide +kernel
theorem dX1_set_1 : decode cX1_set 1 = .ok (.getfield 26, 3) := by decide +kernel
theorem dX1_set_4 : decode cX1_set 4 = .ok (.ifCond .ne 6, 3) := by decide +kernel
theorem dX1_set_7 : decode cX1_set 7 = .ok (.bipush (-3), 2) := by decide +kernel
theorem dX1_set_9 : decode cX1_set 9 = .ok (.ireturn, 1) := by decide +kernel
theorem dX1_set_10 : decode cX1_set 10 = .ok (.aload_n 0, 1) := by decide +kernel
theorem dX1_set_11 : decode cX1_set 11 = .ok (.invokevirtual 37, 3) := by decide +kernel
theorem dX1_set_14 : decode cX1_set 14 = .ok (.istore_n 2, 1) := by decide +kernel
theorem dX1_set_15 : decode cX1_set 15 = .ok (.iload_n 2, 1) := by decide +kernel
theorem dX1_set_16 : decode cX1_set 16 = .ok (.ifCond .ge 15, 3) := by decide +kernel
theorem dX1_set_19 : decode cX1_set 19 = .ok (.aload_n 0, 1) := by decide +kernel
theorem dX1_set_20 : decode cX1_set 20 = .ok (.getfield 30, 3) := by decide +kernel
theorem dX1_set_23 : decode cX1_set 23 = .ok (.bipush 60, 2) := by decide +kernel
theorem dX1_set_25 : decode cX1_set 25 = .ok (.if_icmp .ne 6, 3) := by decide +kernel
theorem dX1_set_28 : decode cX1_set 28 = .ok (.bipush (-2), 2) := by decide +kernel
theorem dX1_set_30 : decode cX1_set 30 = .ok (.ireturn, 1) := by decide +kernel
theorem dX1_set_31 : decode cX1_set 31 = .ok (.iload_n 2, 1) := by decide +kernel
theorem dX1_set_32 : decode cX1_set 32 = .ok (.ifCond .lt 12, 3) := by decide +kernel
theorem dX1_set_35 : decode cX1_set 35 = .ok (.aload_n 0, 1) := by decide +kernel
theorem dX1_set_36 : decode cX1_set 36 = .ok (.getfield 16, 3) := by decide +kernel
theorem dX1_set_39 : decode cX1_set 39 = .ok (.iload_n 2, 1) := by decide +kernel
theorem dX1_set_40 : decode cX1_set 40 = .ok (.iload_n 1, 1) := by decide +kernel
theorem dX1_set_41 : decode cX1_set 41 = .ok (.iastore, 1) := by decide +kernel
theorem dX1_set_42 : decode cX1_set 42 = .ok (.iconst 1, 1) := by decide +kernel
theorem dX1_set_43 : decode cX1_set 43 = .ok (.ireturn, 1) := by decide +kernel
theorem dX1_set_44 : decode cX1_set 44 = .ok (.iconst 0, 1) := by decide +kernel
theorem dX1_set_45 : decode cX1_set 45 = .ok (.istore_n 3, 1) := by decide +kernel
theorem dX1_set_46 : decode cX1_set 46 = .ok (.iload_n 3, 1) := by decide +kernel
theorem dX1_set_47 : decode cX1_set 47 = .ok (.aload_n 0, 1) := by decide +kernel
theorem dX1_set_48 : decode cX1_set 48 = .ok (.getfield 26, 3) := by decide +kernel
theorem dX1_set_51 : decode cX1_set 51 = .ok (.if_icmp .ge 28, 3) := by decide +kernel
theorem dX1_set_54 : decode cX1_set 54 = .ok (.aload_n 0, 1) := by decide +kernel
theorem dX1_set_55 : decode cX1_set 55 = .ok (.getfield 7, 3) := by decide +kernel
theorem dX1_set_58 : decode cX1_set 58 = .ok (.aload_n 0, 1) := by decide +kernel
theorem dX1_set_59 : decode cX1_set 59 = .ok (.getfield 30, 3) := by decide +kernel
theorem dX1_set_62 : decode cX1_set 62 = .ok (.iconst 3, 1) := by decide +kernel
theorem dX1_set_63 : decode cX1_set 63 = .ok (.imul, 1) := by decide +kernel
theorem dX1_set_64 : decode cX1_set 64 = .ok (.iload_n 3, 1) := by decide +kernel
theorem dX1_set_65 : decode cX1_set 65 = .ok (.iadd, 1) := by decide +kernel
theorem dX1_set_66 : decode cX1_set 66 = .ok (.aload_n 0, 1) := by decide +kernel
theorem dX1_set_67 : decode cX1_set 67 = .ok (.getfield 19, 3) := by decide +kernel
theorem dX1_set_70 : decode cX1_set 70 = .ok (.iload_n 3, 1) := by decide +kernel
theorem dX1_set_71 : decode cX1_set 71 = .ok (.iaload, 1) := by decide +kernel
theorem dX1_set_72 : decode cX1_set 72 = .ok (.iastore, 1) := by decide +kernel
theorem dX1_set_73 : decode cX1_set 73 = .ok (.iinc 3 1, 3) := by decide +kernel
theorem dX1_set_76 : decode cX1_set 76 = .ok (.goto (-30), 3) := by decide +kernel
theorem dX1_set_79 : decode cX1_set 79 = .ok (.aload_n 0, 1) := by decide +kernel
theorem dX1_set_80 : decode cX1_set 80 = .ok (.getfield 13, 3) := by decide +kernel
theorem dX1_set_83 : decode cX1_set 83 = .ok (.aload_n 0, 1) := by decide +kernel
theorem dX1_set_84 : decode cX1_set 84 = .ok (.getfield 30, 3) := by decide +kernel
theorem dX1_set_87 : decode cX1_set 87 = .ok (.aload_n 0, 1) := by decide +kernel
theorem dX1_set_88 : decode cX1_set 88 = .ok (.getfield 26, 3) := by decide +kernel
theorem dX1_set_91 : decode cX1_set 91 = .ok (.iastore, 1) := by decide +kernel
theorem dX1_set_92 : decode cX1_set 92 = .ok (.aload_n 0, 1) := by decide +kernel
theorem dX1_set_93 : decode cX1_set 93 = .ok (.getfield 16, 3) := by decide +kernel
theorem dX1_set_96 : decode cX1_set 96 = .ok (.aload_n 0, 1) := by decide +kernel
theorem dX1_set_97 : decode cX1_set 97 = .ok (.getfield 30, 3) := by decide +kernel
theorem dX1_set_100 : decode cX1_set 100 = .ok (.iload_n 1, 1) := by decide +kernel
theorem dX1_set_101 : decode cX1_set 101 = .ok (.iastore, 1) := by decide +kernel
theorem dX1_set_102 : decode cX1_set 102 = .ok (.aload_n 0, 1) := by decide +kernel
theorem dX1_set_103 : decode cX1_set 103 = .ok (.dup, 1) := by decide +kernel
theorem dX1_set_104 : decode cX1_set 104 = .ok (.getfield 30, 3) := by decide +kernel
theorem dX1_set_107 : decode cX1_set 107 = .ok (.iconst 1, 1) := by decide +kernel
theorem dX1_set_108 : decode cX1_set 108 = .ok (.iadd, 1) := by decide +kernel
theorem dX1_set_109 : decode cX1_set 109 = .ok (.putfield 30, 3) := by decide +kernel
theorem dX1_set_112 : decode cX1_set 112 = .ok (.iconst 0, 1) := by decide +kernel
theorem dX1_set_113 : decode cX1_set 113 = .ok (.ireturn, 1) := by decide +kernel
abbrev cX1_here : ByteArray := prog_3_method_7_code
def yX1_here : MethodName := ⟨RX1, "here", "()I"⟩
theorem dX1_here_0 : decode cX1_here 0 = .ok (.iconst 0, 1) := by decide +kernel
theorem dX1_here_1 : decode cX1_here 1 = .ok (.istore_n 1, 1) := by decide +kernel
theorem dX1_here_2 : decode cX1_here 2 = .ok (.iload_n 1, 1) := by decide +kernel
theorem dX1_here_3 : decode cX1_here 3 = .ok (.aload_n 0, 1) := by decide +kernel
theorem dX1_here_4 : decode cX1_here 4 = .ok (.getfield 30, 3) := by decide +kernel
theorem dX1_here_7 : decode cX1_here 7 = .ok (.if_icmp .ge 36, 3) := by decide +kernel
theorem dX1_here_10 : decode cX1_here 10 = .ok (.aload_n 0, 1) := by decide +kernel
theorem dX1_here_11 : decode cX1_here 11 = .ok (.getfield 13, 3) := by decide +kernel
theorem dX1_here_14 : decode cX1_here 14 = .ok (.iload_n 1, 1) := by decide +kernel
theorem dX1_here_15 : decode cX1_here 15 = .ok (.iaload, 1) := by decide +kernel
theorem dX1_here_16 : decode cX1_here 16 = .ok (.aload_n 0, 1) := by decide +kernel
theorem dX1_here_17 : decode cX1_here 17 = .ok (.getfield 26, 3) := by decide +kernel
theorem dX1_here_20 : decode cX1_here 20 = .ok (.if_icmp .ne 17, 3) := by decide +kernel
theorem dX1_here_23 : decode cX1_here 23 = .ok (.aload_n 0, 1) := by decide +kernel
theorem dX1_here_24 : decode cX1_here 24 = .ok (.iload_n 1, 1) := by decide +kernel
theorem dX1_here_25 : decode cX1_here 25 = .ok (.aload_n 0, 1) := by decide +kernel
theorem dX1_here_26 : decode cX1_here 26 = .ok (.getfield 26, 3) := by decide +kernel
theorem dX1_here_29 : decode cX1_here 29 = .ok (.invokevirtual 33, 3) := by decide +kernel
theorem dX1_here_32 : decode cX1_here 32 = .ok (.ifCond .eq 5, 3) := by decide +kernel
theorem dX1_here_35 : decode cX1_here 35 = .ok (.iload_n 1, 1) := by decide +kernel
theorem dX1_here_36 : decode cX1_here 36 = .ok (.ireturn, 1) := by decide +kernel
theorem dX1_here_37 : decode cX1_here 37 = .ok (.iinc 1 1, 3) := by decide +kernel
theorem dX1_here_40 : decode cX1_here 40 = .ok (.goto (-38), 3) := by decide +kernel
theorem dX1_here_43 : decode cX1_here 43 = .ok (.iconst (-1), 1) := by decide +kernel
theorem dX1_here_44 : decode cX1_here 44 = .ok (.ireturn, 1) := by decide +kernel
abbrev cX1_begins : ByteArray := prog_3_method_6_code
def yX1_begins : MethodName := ⟨RX1, "begins", "(II)Z"⟩
theorem dX1_begins_0 : decode cX1_begins 0 = .ok (.aload_n 0, 1) := by decide +kernel
theorem dX1_begins_1 : decode cX1_begins 1 = .ok (.getfield 13, 3) := by decide +kernel
theorem dX1_begins_4 : decode cX1_begins 4 = .ok (.iload_n 1, 1) := by decide +kernel
theorem dX1_begins_5 : decode cX1_begins 5 = .ok (.iaload, 1) := by decide +kernel
theorem dX1_begins_6 : decode cX1_begins 6 = .ok (.iload_n 2, 1) := by decide +kernel
theorem dX1_begins_7 : decode cX1_begins 7 = .ok (.if_icmp .ge 5, 3) := by decide +kernel
theorem dX1_begins_10 : decode cX1_begins 10 = .ok (.iconst 0, 1) := by decide +kernel
theorem dX1_begins_11 : decode cX1_begins 11 = .ok (.ireturn, 1) := by decide +kernel
theorem dX1_begins_12 : decode cX1_begins 12 = .ok (.iconst 0, 1) := by decide +kernel
theorem dX1_begins_13 : decode cX1_begins 13 = .ok (.istore_n 3, 1) := by decide +kernel
theorem dX1_begins_14 : decode cX1_begins 14 = .ok (.iload_n 3, 1) := by decide +kernel
theorem dX1_begins_15 : decode cX1_begins 15 = .ok (.iload_n 2, 1) := by decide +kernel
theorem dX1_begins_16 : decode cX1_begins 16 = .ok (.if_icmp .ge 30, 3) := by decide +kernel
theorem dX1_begins_19 : decode cX1_begins 19 = .ok (.aload_n 0, 1) := by decide +kernel
theorem dX1_begins_20 : decode cX1_begins 20 = .ok (.getfield 7, 3) := by decide +kernel
theorem dX1_begins_23 : decode cX1_begins 23 = .ok (.iload_n 1, 1) := by decide +kernel
theorem dX1_begins_24 : decode cX1_begins 24 = .ok (.iconst 3, 1) := by decide +kernel
theorem dX1_begins_25 : decode cX1_begins 25 = .ok (.imul, 1) := by decide +kernel
theorem dX1_begins_26 : decode cX1_begins 26 = .ok (.iload_n 3, 1) := by decide +kernel
theorem dX1_begins_27 : decode cX1_begins 27 = .ok (.iadd, 1) := by decide +kernel
theorem dX1_begins_28 : decode cX1_begins 28 = .ok (.iaload, 1) := by decide +kernel
theorem dX1_begins_29 : decode cX1_begins 29 = .ok (.aload_n 0, 1) := by decide +kernel
theorem dX1_begins_30 : decode cX1_begins 30 = .ok (.getfield 19, 3) := by decide +kernel
theorem dX1_begins_33 : decode cX1_begins 33 = .ok (.iload_n 3, 1) := by decide +kernel
theorem dX1_begins_34 : decode cX1_begins 34 = .ok (.iaload, 1) := by decide +kernel
theorem dX1_begins_35 : decode cX1_begins 35 = .ok (.if_icmp .eq 5, 3) := by decide +kernel
theorem dX1_begins_38 : decode cX1_begins 38 = .ok (.iconst 0, 1) := by decide +kernel
theorem dX1_begins_39 : decode cX1_begins 39 = .ok (.ireturn, 1) := by decide +kernel
theorem dX1_begins_40 : decode cX1_begins 40 = .ok (.iinc 3 1, 3) := by decide +kernel
theorem dX1_begins_43 : decode cX1_begins 43 = .ok (.goto (-29), 3) := by decide +kernel
theorem dX1_begins_46 : decode cX1_begins 46 = .ok (.iconst 1, 1) := by decide +kernel
theorem dX1_begins_47 : decode cX1_begins 47 = .ok (.ireturn, 1) := by decide +kernel
abbrev cX1_increment : ByteArray := prog_3_method_9_code
def yX1_increment : MethodName := ⟨RX1, "increment", "(I)I"⟩
theorem dX1_increment_0 : decode cX1_increment 0 = .ok (.aload_n 0, 1) := by decide +kernel
theorem dX1_increment_1 : decode cX1_increment 1 = .ok (.invokevirtual 41, 3) := by decide +kernel
theorem dX1_increment_4 : decode cX1_increment 4 = .ok (.iload_n 1, 1) := by decide +kernel
theorem dX1_increment_5 : decode cX1_increment 5 = .ok (.iadd, 1) := by decide +kernel
theorem dX1_increment_6 : decode cX1_increment 6 = .ok (.istore_n 2, 1) := by decide +kernel
theorem dX1_increment_7 : decode cX1_increment 7 = .ok (.aload_n 0, 1) := by decide +kernel
theorem dX1_increment_8 : decode cX1_increment 8 = .ok (.iload_n 2, 1) := by decide +kernel
theorem dX1_increment_9 : decode cX1_increment 9 = .ok (.invokevirtual 44, 3) := by decide +kernel
theorem dX1_increment_12 : decode cX1_increment 12 = .ok (.istore_n 3, 1) := by decide +kernel
theorem dX1_increment_13 : decode cX1_increment 13 = .ok (.iload_n 3, 1) := by decide +kernel
theorem dX1_increment_14 : decode cX1_increment 14 = .ok (.ifCond .ge 7, 3) := by decide +kernel
theorem dX1_increment_17 : decode cX1_increment 17 = .ok (.iload_n 3, 1) := by decide +kernel
theorem dX1_increment_18 : decode cX1_increment 18 = .ok (.goto 4, 3) := by decide +kernel
theorem dX1_increment_21 : decode cX1_increment 21 = .ok (.iload_n 2, 1) := by decide +kernel
theorem dX1_increment_22 : decode cX1_increment 22 = .ok (.ireturn, 1) := by decide +kernel
abbrev cX1_value : ByteArray := prog_3_method_15_code
def yX1_value : MethodName := ⟨RX1, "value", "()I"⟩
theorem dX1_value_0 : decode cX1_value 0 = .ok (.aload_n 0, 1) := by decide +kernel
theorem dX1_value_1 : decode cX1_value 1 = .ok (.invokevirtual 37, 3) := by decide +kernel
theorem dX1_value_4 : decode cX1_value 4 = .ok (.istore_n 1, 1) := by decide +kernel
theorem dX1_value_5 : decode cX1_value 5 = .ok (.iload_n 1, 1) := by decide +kernel
theorem dX1_value_6 : decode cX1_value 6 = .ok (.ifCond .ge 7, 3) := by decide +kernel
theorem dX1_value_9 : decode cX1_value 9 = .ok (.iconst 0, 1) := by decide +kernel
theorem dX1_value_10 : decode cX1_value 10 = .ok (.goto 9, 3) := by decide +kernel
theorem dX1_value_13 : decode cX1_value 13 = .ok (.aload_n 0, 1) := by decide +kernel
theorem dX1_value_14 : decode cX1_value 14 = .ok (.getfield 16, 3) := by decide +kernel
theorem dX1_value_17 : decode cX1_value 17 = .ok (.iload_n 1, 1) := by decide +kernel
theorem dX1_value_18 : decode cX1_value 18 = .ok (.iaload, 1) := by decide +kernel
theorem dX1_value_19 : decode cX1_value 19 = .ok (.ireturn, 1) := by decide +kernel
abbrev cX1_kill : ByteArray := prog_3_method_10_code
def yX1_kill : MethodName := ⟨RX1, "kill", "()I"⟩
theorem dX1_kill_0 : decode cX1_kill 0 = .ok (.iconst 0, 1) := by decide +kernel
theorem dX1_kill_1 : decode cX1_kill 1 = .ok (.istore_n 1, 1) := by decide +kernel
theorem dX1_kill_2 : decode cX1_kill 2 = .ok (.iconst 0, 1) := by decide +kernel
theorem dX1_kill_3 : decode cX1_kill 3 = .ok (.istore_n 2, 1) := by decide +kernel
theorem dX1_kill_4 : decode cX1_kill 4 = .ok (.iload_n 2, 1) := by decide +kernel
theorem dX1_kill_5 : decode cX1_kill 5 = .ok (.aload_n 0, 1) := by decide +kernel
theorem dX1_kill_6 : decode cX1_kill 6 = .ok (.getfield 30, 3) := by decide +kernel
theorem dX1_kill_9 : decode cX1_kill 9 = .ok (.if_icmp .ge 81, 3) := by decide +kernel
theorem dX1_kill_12 : decode cX1_kill 12 = .ok (.aload_n 0, 1) := by decide +kernel
theorem dX1_kill_13 : decode cX1_kill 13 = .ok (.iload_n 2, 1) := by decide +kernel
theorem dX1_kill_14 : decode cX1_kill 14 = .ok (.aload_n 0, 1) := by decide +kernel
theorem dX1_kill_15 : decode cX1_kill 15 = .ok (.getfield 26, 3) := by decide +kernel
theorem dX1_kill_18 : decode cX1_kill 18 = .ok (.invokevirtual 33, 3) := by decide +kernel
theorem dX1_kill_21 : decode cX1_kill 21 = .ok (.ifCond .ne 63, 3) := by decide +kernel
theorem dX1_kill_24 : decode cX1_kill 24 = .ok (.iconst 0, 1) := by decide +kernel
theorem dX1_kill_25 : decode cX1_kill 25 = .ok (.istore_n 3, 1) := by decide +kernel
theorem dX1_kill_26 : decode cX1_kill 26 = .ok (.iload_n 3, 1) := by decide +kernel
theorem dX1_kill_27 : decode cX1_kill 27 = .ok (.iconst 3, 1) := by decide +kernel
theorem dX1_kill_28 : decode cX1_kill 28 = .ok (.if_icmp .ge 29, 3) := by decide +kernel
theorem dX1_kill_31 : decode cX1_kill 31 = .ok (.aload_n 0, 1) := by decide +kernel
theorem dX1_kill_32 : decode cX1_kill 32 = .ok (.getfield 7, 3) := by decide +kernel
theorem dX1_kill_35 : decode cX1_kill 35 = .ok (.iload_n 1, 1) := by decide +kernel
theorem dX1_kill_36 : decode cX1_kill 36 = .ok (.iconst 3, 1) := by decide +kernel
theorem dX1_kill_37 : decode cX1_kill 37 = .ok (.imul, 1) := by decide +kernel
theorem dX1_kill_38 : decode cX1_kill 38 = .ok (.iload_n 3, 1) := by decide +kernel
theorem dX1_kill_39 : decode cX1_kill 39 = .ok (.iadd, 1) := by decide +kernel
theorem dX1_kill_40 : decode cX1_kill 40 = .ok (.aload_n 0, 1) := by decide +kernel
theorem dX1_kill_41 : decode cX1_kill 41 = .ok (.getfield 7, 3) := by decide +kernel
theorem dX1_kill_44 : decode cX1_kill 44 = .ok (.iload_n 2, 1) := by decide +kernel
theorem dX1_kill_45 : decode cX1_kill 45 = .ok (.iconst 3, 1) := by decide +kernel
theorem dX1_kill_46 : decode cX1_kill 46 = .ok (.imul, 1) := by decide +kernel
theorem dX1_kill_47 : decode cX1_kill 47 = .ok (.iload_n 3, 1) := by decide +kernel
theorem dX1_kill_48 : decode cX1_kill 48 = .ok (.iadd, 1) := by decide +kernel
theorem dX1_kill_49 : decode cX1_kill 49 = .ok (.iaload, 1) := by decide +kernel
theorem dX1_kill_50 : decode cX1_kill 50 = .ok (.iastore, 1) := by decide +kernel
theorem dX1_kill_51 : decode cX1_kill 51 = .ok (.iinc 3 1, 3) := by decide +kernel
theorem dX1_kill_54 : decode cX1_kill 54 = .ok (.goto (-28), 3) := by decide +kernel
theorem dX1_kill_57 : decode cX1_kill 57 = .ok (.aload_n 0, 1) := by decide +kernel
theorem dX1_kill_58 : decode cX1_kill 58 = .ok (.getfield 13, 3) := by decide +kernel
theorem dX1_kill_61 : decode cX1_kill 61 = .ok (.iload_n 1, 1) := by decide +kernel
theorem dX1_kill_62 : decode cX1_kill 62 = .ok (.aload_n 0, 1) := by decide +kernel
theorem dX1_kill_63 : decode cX1_kill 63 = .ok (.getfield 13, 3) := by decide +kernel
theorem dX1_kill_66 : decode cX1_kill 66 = .ok (.iload_n 2, 1) := by decide +kernel
theorem dX1_kill_67 : decode cX1_kill 67 = .ok (.iaload, 1) := by decide +kernel
theorem dX1_kill_68 : decode cX1_kill 68 = .ok (.iastore, 1) := by decide +kernel
theorem dX1_kill_69 : decode cX1_kill 69 = .ok (.aload_n 0, 1) := by decide +kernel
theorem dX1_kill_70 : decode cX1_kill 70 = .ok (.getfield 16, 3) := by decide +kernel
theorem dX1_kill_73 : decode cX1_kill 73 = .ok (.iload_n 1, 1) := by decide +kernel
theorem dX1_kill_74 : decode cX1_kill 74 = .ok (.aload_n 0, 1) := by decide +kernel
theorem dX1_kill_75 : decode cX1_kill 75 = .ok (.getfield 16, 3) := by decide +kernel
theorem dX1_kill_78 : decode cX1_kill 78 = .ok (.iload_n 2, 1) := by decide +kernel
theorem dX1_kill_79 : decode cX1_kill 79 = .ok (.iaload, 1) := by decide +kernel
theorem dX1_kill_80 : decode cX1_kill 80 = .ok (.iastore, 1) := by decide +kernel
theorem dX1_kill_81 : decode cX1_kill 81 = .ok (.iinc 1 1, 3) := by decide +kernel
theorem dX1_kill_84 : decode cX1_kill 84 = .ok (.iinc 2 1, 3) := by decide +kernel
theorem dX1_kill_87 : decode cX1_kill 87 = .ok (.goto (-83), 3) := by decide +kernel
theorem dX1_kill_90 : decode cX1_kill 90 = .ok (.aload_n 0, 1) := by decide +kernel
theorem dX1_kill_91 : decode cX1_kill 91 = .ok (.getfield 30, 3) := by decide +kernel
theorem dX1_kill_94 : decode cX1_kill 94 = .ok (.iload_n 1, 1) := by decide +kernel
theorem dX1_kill_95 : decode cX1_kill 95 = .ok (.isub, 1) := by decide +kernel
theorem dX1_kill_96 : decode cX1_kill 96 = .ok (.istore_n 2, 1) := by decide +kernel
theorem dX1_kill_97 : decode cX1_kill 97 = .ok (.aload_n 0, 1) := by decide +kernel
theorem dX1_kill_98 : decode cX1_kill 98 = .ok (.iload_n 1, 1) := by decide +kernel
theorem dX1_kill_99 : decode cX1_kill 99 = .ok (.putfield 30, 3) := by decide +kernel
theorem dX1_kill_102 : decode cX1_kill 102 = .ok (.iload_n 2, 1) := by decide +kernel
theorem dX1_kill_103 : decode cX1_kill 103 = .ok (.ireturn, 1) := by decide +kernel
abbrev cX1_merge : ByteArray := prog_3_method_12_code
def yX1_merge : MethodName := ⟨RX1, "merge", "(I)I"⟩
theorem dX1_merge_0 : decode cX1_merge 0 = .ok (.aload_n 0, 1) := by decide +kernel
theorem dX1_merge_1 : decode cX1_merge 1 = .ok (.getfield 26, 3) := by decide +kernel
theorem dX1_merge_4 : decode cX1_merge 4 = .ok (.ifCond .ne 6, 3) := by decide +kernel
theorem dX1_merge_7 : decode cX1_merge 7 = .ok (.bipush (-3), 2) := by decide +kernel
theorem dX1_merge_9 : decode cX1_merge 9 = .ok (.ireturn, 1) := by decide +kernel
theorem dX1_merge_10 : decode cX1_merge 10 = .ok (.aload_n 0, 1) := by decide +kernel
theorem dX1_merge_11 : decode cX1_merge 11 = .ok (.iload_n 1, 1) := by decide +kernel
theorem dX1_merge_12 : decode cX1_merge 12 = .ok (.invokevirtual 22, 3) := by decide +kernel
theorem dX1_merge_15 : decode cX1_merge 15 = .ok (.ifCond .ne 5, 3) := by decide +kernel
theorem dX1_merge_18 : decode cX1_merge 18 = .ok (.iconst (-1), 1) := by decide +kernel
theorem dX1_merge_19 : decode cX1_merge 19 = .ok (.ireturn, 1) := by decide +kernel
theorem dX1_merge_20 : decode cX1_merge 20 = .ok (.aload_n 0, 1) := by decide +kernel
theorem dX1_merge_21 : decode cX1_merge 21 = .ok (.getfield 30, 3) := by decide +kernel
theorem dX1_merge_24 : decode cX1_merge 24 = .ok (.istore_n 2, 1) := by decide +kernel
theorem dX1_merge_25 : decode cX1_merge 25 = .ok (.iconst 0, 1) := by decide +kernel
theorem dX1_merge_26 : decode cX1_merge 26 = .ok (.istore_n 3, 1) := by decide +kernel
theorem dX1_merge_27 : decode cX1_merge 27 = .ok (.iconst 0, 1) := by decide +kernel
theorem dX1_merge_28 : decode cX1_merge 28 = .ok (.istore 4, 2) := by decide +kernel
theorem dX1_merge_30 : decode cX1_merge 30 = .ok (.iconst 0, 1) := by decide +kernel
theorem dX1_merge_31 : decode cX1_merge 31 = .ok (.istore 5, 2) := by decide +kernel
theorem dX1_merge_33 : decode cX1_merge 33 = .ok (.iload 5, 2) := by decide +kernel
theorem dX1_merge_35 : decode cX1_merge 35 = .ok (.iload_n 2, 1) := by decide +kernel
theorem dX1_merge_36 : decode cX1_merge 36 = .ok (.if_icmp .ge 44, 3) := by decide +kernel
theorem dX1_merge_39 : decode cX1_merge 39 = .ok (.aload_n 0, 1) := by decide +kernel
theorem dX1_merge_40 : decode cX1_merge 40 = .ok (.iload 5, 2) := by decide +kernel
theorem dX1_merge_42 : decode cX1_merge 42 = .ok (.aload_n 0, 1) := by decide +kernel
theorem dX1_merge_43 : decode cX1_merge 43 = .ok (.getfield 26, 3) := by decide +kernel
theorem dX1_merge_46 : decode cX1_merge 46 = .ok (.invokevirtual 33, 3) := by decide +kernel
theorem dX1_merge_49 : decode cX1_merge 49 = .ok (.ifCond .eq 25, 3) := by decide +kernel
theorem dX1_merge_52 : decode cX1_merge 52 = .ok (.iinc 3 1, 3) := by decide +kernel
theorem dX1_merge_55 : decode cX1_merge 55 = .ok (.aload_n 0, 1) := by decide +kernel
theorem dX1_merge_56 : decode cX1_merge 56 = .ok (.iload 5, 2) := by decide +kernel
theorem dX1_merge_58 : decode cX1_merge 58 = .ok (.aload_n 0, 1) := by decide +kernel
theorem dX1_merge_59 : decode cX1_merge 59 = .ok (.getfield 26, 3) := by decide +kernel
theorem dX1_merge_62 : decode cX1_merge 62 = .ok (.iconst 1, 1) := by decide +kernel
theorem dX1_merge_63 : decode cX1_merge 63 = .ok (.isub, 1) := by decide +kernel
theorem dX1_merge_64 : decode cX1_merge 64 = .ok (.iload_n 1, 1) := by decide +kernel
theorem dX1_merge_65 : decode cX1_merge 65 = .ok (.invokevirtual 48, 3) := by decide +kernel
theorem dX1_merge_68 : decode cX1_merge 68 = .ok (.ifCond .ge 6, 3) := by decide +kernel
theorem dX1_merge_71 : decode cX1_merge 71 = .ok (.iinc 4 1, 3) := by decide +kernel
theorem dX1_merge_74 : decode cX1_merge 74 = .ok (.iinc 5 1, 3) := by decide +kernel
theorem dX1_merge_77 : decode cX1_merge 77 = .ok (.goto (-44), 3) := by decide +kernel
theorem dX1_merge_80 : decode cX1_merge 80 = .ok (.iload_n 2, 1) := by decide +kernel
theorem dX1_merge_81 : decode cX1_merge 81 = .ok (.iload 4, 2) := by decide +kernel
theorem dX1_merge_83 : decode cX1_merge 83 = .ok (.iadd, 1) := by decide +kernel
theorem dX1_merge_84 : decode cX1_merge 84 = .ok (.bipush 60, 2) := by decide +kernel
theorem dX1_merge_86 : decode cX1_merge 86 = .ok (.if_icmp .le 6, 3) := by decide +kernel
theorem dX1_merge_89 : decode cX1_merge 89 = .ok (.bipush (-2), 2) := by decide +kernel
theorem dX1_merge_91 : decode cX1_merge 91 = .ok (.ireturn, 1) := by decide +kernel
theorem dX1_merge_92 : decode cX1_merge 92 = .ok (.iconst 0, 1) := by decide +kernel
theorem dX1_merge_93 : decode cX1_merge 93 = .ok (.istore 5, 2) := by decide +kernel
theorem dX1_merge_95 : decode cX1_merge 95 = .ok (.iload 5, 2) := by decide +kernel
theorem dX1_merge_97 : decode cX1_merge 97 = .ok (.iload_n 2, 1) := by decide +kernel
theorem dX1_merge_98 : decode cX1_merge 98 = .ok (.if_icmp .ge 29, 3) := by decide +kernel
theorem dX1_merge_101 : decode cX1_merge 101 = .ok (.aload_n 0, 1) := by decide +kernel
theorem dX1_merge_102 : decode cX1_merge 102 = .ok (.iload 5, 2) := by decide +kernel
theorem dX1_merge_104 : decode cX1_merge 104 = .ok (.aload_n 0, 1) := by decide +kernel
theorem dX1_merge_105 : decode cX1_merge 105 = .ok (.getfield 26, 3) := by decide +kernel
theorem dX1_merge_108 : decode cX1_merge 108 = .ok (.invokevirtual 33, 3) := by decide +kernel
theorem dX1_merge_111 : decode cX1_merge 111 = .ok (.ifCond .eq 10, 3) := by decide +kernel
theorem dX1_merge_114 : decode cX1_merge 114 = .ok (.aload_n 0, 1) := by decide +kernel
theorem dX1_merge_115 : decode cX1_merge 115 = .ok (.iload 5, 2) := by decide +kernel
theorem dX1_merge_117 : decode cX1_merge 117 = .ok (.iload_n 1, 1) := by decide +kernel
theorem dX1_merge_118 : decode cX1_merge 118 = .ok (.invokevirtual 52, 3) := by decide +kernel
theorem dX1_merge_121 : decode cX1_merge 121 = .ok (.iinc 5 1, 3) := by decide +kernel
theorem dX1_merge_124 : decode cX1_merge 124 = .ok (.goto (-29), 3) := by decide +kernel
theorem dX1_merge_127 : decode cX1_merge 127 = .ok (.iload_n 3, 1) := by decide +kernel
theorem dX1_merge_128 : decode cX1_merge 128 = .ok (.ireturn, 1) := by decide +kernel
end
section
set_option maxRecDepth 100000
abbrev cX1_twin : ByteArray := prog_3_method_11_code
def yX1_twin : MethodName := ⟨RX1, "twin", "(III)I"⟩
theorem dX1_twin_0 : decode cX1_twin 0 = .ok (.iconst 0, 1) := by decide +kernel
theorem dX1_twin_1 : decode cX1_twin 1 = .ok (.istore 4, 2) := by decide +kernel
theorem dX1_twin_3 : decode cX1_twin 3 = .ok (.iload 4, 2) := by decide +kernel
theorem dX1_twin_5 : decode cX1_twin 5 = .ok (.aload_n 0, 1) := by decide +kernel
theorem dX1_twin_6 : decode cX1_twin 6 = .ok (.getfield 30, 3) := by decide +kernel
theorem dX1_twin_9 : decode cX1_twin 9 = .ok (.if_icmp .ge 108, 3) := by decide +kernel
theorem dX1_twin_12 : decode cX1_twin 12 = .ok (.aload_n 0, 1) := by decide +kernel
theorem dX1_twin_13 : decode cX1_twin 13 = .ok (.getfield 13, 3) := by decide +kernel
theorem dX1_twin_16 : decode cX1_twin 16 = .ok (.iload 4, 2) := by decide +kernel
theorem dX1_twin_18 : decode cX1_twin 18 = .ok (.iaload, 1) := by decide +kernel
theorem dX1_twin_19 : decode cX1_twin 19 = .ok (.aload_n 0, 1) := by decide +kernel
theorem dX1_twin_20 : decode cX1_twin 20 = .ok (.getfield 13, 3) := by decide +kernel
theorem dX1_twin_23 : decode cX1_twin 23 = .ok (.iload_n 1, 1) := by decide +kernel
theorem dX1_twin_24 : decode cX1_twin 24 = .ok (.iaload, 1) := by decide +kernel
theorem dX1_twin_25 : decode cX1_twin 25 = .ok (.if_icmp .ne 7, 3) := by decide +kernel
theorem dX1_twin_28 : decode cX1_twin 28 = .ok (.iconst 1, 1) := by decide +kernel
theorem dX1_twin_29 : decode cX1_twin 29 = .ok (.goto 4, 3) := by decide +kernel
theorem dX1_twin_32 : decode cX1_twin 32 = .ok (.iconst 0, 1) := by decide +kernel
theorem dX1_twin_33 : decode cX1_twin 33 = .ok (.istore 5, 2) := by decide +kernel
theorem dX1_twin_35 : decode cX1_twin 35 = .ok (.iconst 0, 1) := by decide +kernel
theorem dX1_twin_36 : decode cX1_twin 36 = .ok (.istore 6, 2) := by decide +kernel
theorem dX1_twin_38 : decode cX1_twin 38 = .ok (.iload 6, 2) := by decide +kernel
theorem dX1_twin_40 : decode cX1_twin 40 = .ok (.aload_n 0, 1) := by decide +kernel
theorem dX1_twin_41 : decode cX1_twin 41 = .ok (.getfield 13, 3) := by decide +kernel
theorem dX1_twin_44 : decode cX1_twin 44 = .ok (.iload_n 1, 1) := by decide +kernel
theorem dX1_twin_45 : decode cX1_twin 45 = .ok (.iaload, 1) := by decide +kernel
theorem dX1_twin_46 : decode cX1_twin 46 = .ok (.if_icmp .ge 57, 3) := by decide +kernel
theorem dX1_twin_49 : decode cX1_twin 49 = .ok (.iload 5, 2) := by decide +kernel
theorem dX1_twin_51 : decode cX1_twin 51 = .ok (.ifCond .eq 43, 3) := by decide +kernel
theorem dX1_twin_54 : decode cX1_twin 54 = .ok (.aload_n 0, 1) := by decide +kernel
theorem dX1_twin_55 : decode cX1_twin 55 = .ok (.getfield 7, 3) := by decide +kernel
theorem dX1_twin_58 : decode cX1_twin 58 = .ok (.iload 4, 2) := by decide +kernel
theorem dX1_twin_60 : decode cX1_twin 60 = .ok (.iconst 3, 1) := by decide +kernel
theorem dX1_twin_61 : decode cX1_twin 61 = .ok (.imul, 1) := by decide +kernel
theorem dX1_twin_62 : decode cX1_twin 62 = .ok (.iload 6, 2) := by decide +kernel
theorem dX1_twin_64 : decode cX1_twin 64 = .ok (.iadd, 1) := by decide +kernel
theorem dX1_twin_65 : decode cX1_twin 65 = .ok (.iaload, 1) := by decide +kernel
theorem dX1_twin_66 : decode cX1_twin 66 = .ok (.iload 6, 2) := by decide +kernel
theorem dX1_twin_68 : decode cX1_twin 68 = .ok (.iload_n 2, 1) := by decide +kernel
theorem dX1_twin_69 : decode cX1_twin 69 = .ok (.if_icmp .ne 7, 3) := by decide +kernel
theorem dX1_twin_72 : decode cX1_twin 72 = .ok (.iload_n 3, 1) := by decide +kernel
theorem dX1_twin_73 : decode cX1_twin 73 = .ok (.goto 14, 3) := by decide +kernel
theorem dX1_twin_76 : decode cX1_twin 76 = .ok (.aload_n 0, 1) := by decide +kernel
theorem dX1_twin_77 : decode cX1_twin 77 = .ok (.getfield 7, 3) := by decide +kernel
theorem dX1_twin_80 : decode cX1_twin 80 = .ok (.iload_n 1, 1) := by decide +kernel
theorem dX1_twin_81 : decode cX1_twin 81 = .ok (.iconst 3, 1) := by decide +kernel
theorem dX1_twin_82 : decode cX1_twin 82 = .ok (.imul, 1) := by decide +kernel
theorem dX1_twin_83 : decode cX1_twin 83 = .ok (.iload 6, 2) := by decide +kernel
theorem dX1_twin_85 : decode cX1_twin 85 = .ok (.iadd, 1) := by decide +kernel
theorem dX1_twin_86 : decode cX1_twin 86 = .ok (.iaload, 1) := by decide +kernel
theorem dX1_twin_87 : decode cX1_twin 87 = .ok (.if_icmp .ne 7, 3) := by decide +kernel
theorem dX1_twin_90 : decode cX1_twin 90 = .ok (.iconst 1, 1) := by decide +kernel
theorem dX1_twin_91 : decode cX1_twin 91 = .ok (.goto 4, 3) := by decide +kernel
theorem dX1_twin_94 : decode cX1_twin 94 = .ok (.iconst 0, 1) := by decide +kernel
theorem dX1_twin_95 : decode cX1_twin 95 = .ok (.istore 5, 2) := by decide +kernel
theorem dX1_twin_97 : decode cX1_twin 97 = .ok (.iinc 6 1, 3) := by decide +kernel
theorem dX1_twin_100 : decode cX1_twin 100 = .ok (.goto (-62), 3) := by decide +kernel
theorem dX1_twin_103 : decode cX1_twin 103 = .ok (.iload 5, 2) := by decide +kernel
theorem dX1_twin_105 : decode cX1_twin 105 = .ok (.ifCond .eq 6, 3) := by decide +kernel
theorem dX1_twin_108 : decode cX1_twin 108 = .ok (.iload 4, 2) := by decide +kernel
theorem dX1_twin_110 : decode cX1_twin 110 = .ok (.ireturn, 1) := by decide +kernel
theorem dX1_twin_111 : decode cX1_twin 111 = .ok (.iinc 4 1, 3) := by decide +kernel
theorem dX1_twin_114 : decode cX1_twin 114 = .ok (.goto (-111), 3) := by decide +kernel
theorem dX1_twin_117 : decode cX1_twin 117 = .ok (.iconst (-1), 1) := by decide +kernel
theorem dX1_twin_118 : decode cX1_twin 118 = .ok (.ireturn, 1) := by decide +kernel
abbrev cX1_place : ByteArray := prog_3_method_13_code
def yX1_place : MethodName := ⟨RX1, "place", "(II)V"⟩
theorem dX1_place_0 : decode cX1_place 0 = .ok (.aload_n 0, 1) := by decide +kernel
theorem dX1_place_1 : decode cX1_place 1 = .ok (.iload_n 1, 1) := by decide +kernel
theorem dX1_place_2 : decode cX1_place 2 = .ok (.aload_n 0, 1) := by decide +kernel
theorem dX1_place_3 : decode cX1_place 3 = .ok (.getfield 26, 3) := by decide +kernel
theorem dX1_place_6 : decode cX1_place 6 = .ok (.iconst 1, 1) := by decide +kernel
theorem dX1_place_7 : decode cX1_place 7 = .ok (.isub, 1) := by decide +kernel
theorem dX1_place_8 : decode cX1_place 8 = .ok (.iload_n 2, 1) := by decide +kernel
theorem dX1_place_9 : decode cX1_place 9 = .ok (.invokevirtual 48, 3) := by decide +kernel
theorem dX1_place_12 : decode cX1_place 12 = .ok (.istore_n 3, 1) := by decide +kernel
theorem dX1_place_13 : decode cX1_place 13 = .ok (.iload_n 3, 1) := by decide +kernel
theorem dX1_place_14 : decode cX1_place 14 = .ok (.ifCond .ge 82, 3) := by decide +kernel
theorem dX1_place_17 : decode cX1_place 17 = .ok (.aload_n 0, 1) := by decide +kernel
theorem dX1_place_18 : decode cX1_place 18 = .ok (.getfield 30, 3) := by decide +kernel
theorem dX1_place_21 : decode cX1_place 21 = .ok (.istore_n 3, 1) := by decide +kernel
theorem dX1_place_22 : decode cX1_place 22 = .ok (.iconst 0, 1) := by decide +kernel
theorem dX1_place_23 : decode cX1_place 23 = .ok (.istore 4, 2) := by decide +kernel
theorem dX1_place_25 : decode cX1_place 25 = .ok (.iload 4, 2) := by decide +kernel
theorem dX1_place_27 : decode cX1_place 27 = .ok (.iconst 3, 1) := by decide +kernel
theorem dX1_place_28 : decode cX1_place 28 = .ok (.if_icmp .ge 46, 3) := by decide +kernel
theorem dX1_place_31 : decode cX1_place 31 = .ok (.aload_n 0, 1) := by decide +kernel
theorem dX1_place_32 : decode cX1_place 32 = .ok (.getfield 7, 3) := by decide +kernel
theorem dX1_place_35 : decode cX1_place 35 = .ok (.iload_n 3, 1) := by decide +kernel
theorem dX1_place_36 : decode cX1_place 36 = .ok (.iconst 3, 1) := by decide +kernel
theorem dX1_place_37 : decode cX1_place 37 = .ok (.imul, 1) := by decide +kernel
theorem dX1_place_38 : decode cX1_place 38 = .ok (.iload 4, 2) := by decide +kernel
theorem dX1_place_40 : decode cX1_place 40 = .ok (.iadd, 1) := by decide +kernel
theorem dX1_place_41 : decode cX1_place 41 = .ok (.iload 4, 2) := by decide +kernel
theorem dX1_place_43 : decode cX1_place 43 = .ok (.aload_n 0, 1) := by decide +kernel
theorem dX1_place_44 : decode cX1_place 44 = .ok (.getfield 26, 3) := by decide +kernel
theorem dX1_place_47 : decode cX1_place 47 = .ok (.iconst 1, 1) := by decide +kernel
theorem dX1_place_48 : decode cX1_place 48 = .ok (.isub, 1) := by decide +kernel
theorem dX1_place_49 : decode cX1_place 49 = .ok (.if_icmp .ne 7, 3) := by decide +kernel
theorem dX1_place_52 : decode cX1_place 52 = .ok (.iload_n 2, 1) := by decide +kernel
theorem dX1_place_53 : decode cX1_place 53 = .ok (.goto 14, 3) := by decide +kernel
theorem dX1_place_56 : decode cX1_place 56 = .ok (.aload_n 0, 1) := by decide +kernel
theorem dX1_place_57 : decode cX1_place 57 = .ok (.getfield 7, 3) := by decide +kernel
theorem dX1_place_60 : decode cX1_place 60 = .ok (.iload_n 1, 1) := by decide +kernel
theorem dX1_place_61 : decode cX1_place 61 = .ok (.iconst 3, 1) := by decide +kernel
theorem dX1_place_62 : decode cX1_place 62 = .ok (.imul, 1) := by decide +kernel
theorem dX1_place_63 : decode cX1_place 63 = .ok (.iload 4, 2) := by decide +kernel
theorem dX1_place_65 : decode cX1_place 65 = .ok (.iadd, 1) := by decide +kernel
theorem dX1_place_66 : decode cX1_place 66 = .ok (.iaload, 1) := by decide +kernel
theorem dX1_place_67 : decode cX1_place 67 = .ok (.iastore, 1) := by decide +kernel
theorem dX1_place_68 : decode cX1_place 68 = .ok (.iinc 4 1, 3) := by decide +kernel
theorem dX1_place_71 : decode cX1_place 71 = .ok (.goto (-46), 3) := by decide +kernel
theorem dX1_place_74 : decode cX1_place 74 = .ok (.aload_n 0, 1) := by decide +kernel
theorem dX1_place_75 : decode cX1_place 75 = .ok (.getfield 13, 3) := by decide +kernel
theorem dX1_place_78 : decode cX1_place 78 = .ok (.iload_n 3, 1) := by decide +kernel
theorem dX1_place_79 : decode cX1_place 79 = .ok (.aload_n 0, 1) := by decide +kernel
theorem dX1_place_80 : decode cX1_place 80 = .ok (.getfield 13, 3) := by decide +kernel
theorem dX1_place_83 : decode cX1_place 83 = .ok (.iload_n 1, 1) := by decide +kernel
theorem dX1_place_84 : decode cX1_place 84 = .ok (.iaload, 1) := by decide +kernel
theorem dX1_place_85 : decode cX1_place 85 = .ok (.iastore, 1) := by decide +kernel
theorem dX1_place_86 : decode cX1_place 86 = .ok (.aload_n 0, 1) := by decide +kernel
theorem dX1_place_87 : decode cX1_place 87 = .ok (.dup, 1) := by decide +kernel
theorem dX1_place_88 : decode cX1_place 88 = .ok (.getfield 30, 3) := by decide +kernel
theorem dX1_place_91 : decode cX1_place 91 = .ok (.iconst 1, 1) := by decide +kernel
theorem dX1_place_92 : decode cX1_place 92 = .ok (.iadd, 1) := by decide +kernel
theorem dX1_place_93 : decode cX1_place 93 = .ok (.putfield 30, 3) := by decide +kernel
theorem dX1_place_96 : decode cX1_place 96 = .ok (.aload_n 0, 1) := by decide +kernel
theorem dX1_place_97 : decode cX1_place 97 = .ok (.getfield 16, 3) := by decide +kernel
theorem dX1_place_100 : decode cX1_place 100 = .ok (.iload_n 3, 1) := by decide +kernel
theorem dX1_place_101 : decode cX1_place 101 = .ok (.aload_n 0, 1) := by decide +kernel
theorem dX1_place_102 : decode cX1_place 102 = .ok (.getfield 16, 3) := by decide +kernel
theorem dX1_place_105 : decode cX1_place 105 = .ok (.iload_n 1, 1) := by decide +kernel
theorem dX1_place_106 : decode cX1_place 106 = .ok (.iaload, 1) := by decide +kernel
theorem dX1_place_107 : decode cX1_place 107 = .ok (.iastore, 1) := by decide +kernel
theorem dX1_place_108 : decode cX1_place 108 = .ok (.return_, 1) := by decide +kernel
abbrev cX1_data : ByteArray := prog_3_method_14_code
def yX1_data : MethodName := ⟨RX1, "data", "()I"⟩
theorem dX1_data_0 : decode cX1_data 0 = .ok (.iconst 0, 1) := by decide +kernel
theorem dX1_data_1 : decode cX1_data 1 = .ok (.istore_n 1, 1) := by decide +kernel
theorem dX1_data_2 : decode cX1_data 2 = .ok (.iconst 0, 1) := by decide +kernel
theorem dX1_data_3 : decode cX1_data 3 = .ok (.istore_n 2, 1) := by decide +kernel
theorem dX1_data_4 : decode cX1_data 4 = .ok (.iload_n 2, 1) := by decide +kernel
theorem dX1_data_5 : decode cX1_data 5 = .ok (.aload_n 0, 1) := by decide +kernel
theorem dX1_data_6 : decode cX1_data 6 = .ok (.getfield 30, 3) := by decide +kernel
theorem dX1_data_9 : decode cX1_data 9 = .ok (.if_icmp .ge 37, 3) := by decide +kernel
theorem dX1_data_12 : decode cX1_data 12 = .ok (.aload_n 0, 1) := by decide +kernel
theorem dX1_data_13 : decode cX1_data 13 = .ok (.iload_n 2, 1) := by decide +kernel
theorem dX1_data_14 : decode cX1_data 14 = .ok (.aload_n 0, 1) := by decide +kernel
theorem dX1_data_15 : decode cX1_data 15 = .ok (.getfield 26, 3) := by decide +kernel
theorem dX1_data_18 : decode cX1_data 18 = .ok (.invokevirtual 33, 3) := by decide +kernel
theorem dX1_data_21 : decode cX1_data 21 = .ok (.ifCond .eq 19, 3) := by decide +kernel
theorem dX1_data_24 : decode cX1_data 24 = .ok (.aload_n 0, 1) := by decide +kernel
theorem dX1_data_25 : decode cX1_data 25 = .ok (.getfield 13, 3) := by decide +kernel
theorem dX1_data_28 : decode cX1_data 28 = .ok (.iload_n 2, 1) := by decide +kernel
theorem dX1_data_29 : decode cX1_data 29 = .ok (.iaload, 1) := by decide +kernel
theorem dX1_data_30 : decode cX1_data 30 = .ok (.aload_n 0, 1) := by decide +kernel
theorem dX1_data_31 : decode cX1_data 31 = .ok (.getfield 26, 3) := by decide +kernel
theorem dX1_data_34 : decode cX1_data 34 = .ok (.if_icmp .le 6, 3) := by decide +kernel
theorem dX1_data_37 : decode cX1_data 37 = .ok (.bipush 10, 2) := by decide +kernel
theorem dX1_data_39 : decode cX1_data 39 = .ok (.istore_n 1, 1) := by decide +kernel
theorem dX1_data_40 : decode cX1_data 40 = .ok (.iinc 2 1, 3) := by decide +kernel
theorem dX1_data_43 : decode cX1_data 43 = .ok (.goto (-39), 3) := by decide +kernel
theorem dX1_data_46 : decode cX1_data 46 = .ok (.aload_n 0, 1) := by decide +kernel
theorem dX1_data_47 : decode cX1_data 47 = .ok (.invokevirtual 37, 3) := by decide +kernel
theorem dX1_data_50 : decode cX1_data 50 = .ok (.ifCond .lt 9, 3) := by decide +kernel
theorem dX1_data_53 : decode cX1_data 53 = .ok (.iload_n 1, 1) := by decide +kernel
theorem dX1_data_54 : decode cX1_data 54 = .ok (.iconst 1, 1) := by decide +kernel
theorem dX1_data_55 : decode cX1_data 55 = .ok (.iadd, 1) := by decide +kernel
theorem dX1_data_56 : decode cX1_data 56 = .ok (.goto 4, 3) := by decide +kernel
theorem dX1_data_59 : decode cX1_data 59 = .ok (.iload_n 1, 1) := by decide +kernel
theorem dX1_data_60 : decode cX1_data 60 = .ok (.ireturn, 1) := by decide +kernel
abbrev cX1_next : ByteArray := prog_3_method_17_code
def yX1_next : MethodName := ⟨RX1, "next", "()I"⟩
theorem dX1_next_0 : decode cX1_next 0 = .ok (.aload_n 0, 1) := by decide +kernel
theorem dX1_next_1 : decode cX1_next 1 = .ok (.getfield 26, 3) := by decide +kernel
theorem dX1_next_4 : decode cX1_next 4 = .ok (.ifCond .ne 8, 3) := by decide +kernel
theorem dX1_next_7 : decode cX1_next 7 = .ok (.bipush (-100), 2) := by decide +kernel
theorem dX1_next_9 : decode cX1_next 9 = .ok (.goto 25, 3) := by decide +kernel
theorem dX1_next_12 : decode cX1_next 12 = .ok (.aload_n 0, 1) := by decide +kernel
theorem dX1_next_13 : decode cX1_next 13 = .ok (.aload_n 0, 1) := by decide +kernel
theorem dX1_next_14 : decode cX1_next 14 = .ok (.getfield 26, 3) := by decide +kernel
theorem dX1_next_17 : decode cX1_next 17 = .ok (.iconst 1, 1) := by decide +kernel
theorem dX1_next_18 : decode cX1_next 18 = .ok (.isub, 1) := by decide +kernel
theorem dX1_next_19 : decode cX1_next 19 = .ok (.aload_n 0, 1) := by decide +kernel
theorem dX1_next_20 : decode cX1_next 20 = .ok (.getfield 19, 3) := by decide +kernel
theorem dX1_next_23 : decode cX1_next 23 = .ok (.aload_n 0, 1) := by decide +kernel
theorem dX1_next_24 : decode cX1_next 24 = .ok (.getfield 26, 3) := by decide +kernel
theorem dX1_next_27 : decode cX1_next 27 = .ok (.iconst 1, 1) := by decide +kernel
theorem dX1_next_28 : decode cX1_next 28 = .ok (.isub, 1) := by decide +kernel
theorem dX1_next_29 : decode cX1_next 29 = .ok (.iaload, 1) := by decide +kernel
theorem dX1_next_30 : decode cX1_next 30 = .ok (.iconst 1, 1) := by decide +kernel
theorem dX1_next_31 : decode cX1_next 31 = .ok (.invokevirtual 56, 3) := by decide +kernel
theorem dX1_next_34 : decode cX1_next 34 = .ok (.ireturn, 1) := by decide +kernel
abbrev cX1_nearest : ByteArray := prog_3_method_16_code
def yX1_nearest : MethodName := ⟨RX1, "nearest", "(III)I"⟩
theorem dX1_nearest_0 : decode cX1_nearest 0 = .ok (.bipush (-100), 2) := by decide +kernel
theorem dX1_nearest_2 : decode cX1_nearest 2 = .ok (.istore 4, 2) := by decide +kernel
theorem dX1_nearest_4 : decode cX1_nearest 4 = .ok (.iconst 0, 1) := by decide +kernel
theorem dX1_nearest_5 : decode cX1_nearest 5 = .ok (.istore 5, 2) := by decide +kernel
theorem dX1_nearest_7 : decode cX1_nearest 7 = .ok (.iload 5, 2) := by decide +kernel
theorem dX1_nearest_9 : decode cX1_nearest 9 = .ok (.aload_n 0, 1) := by decide +kernel
theorem dX1_nearest_10 : decode cX1_nearest 10 = .ok (.getfield 30, 3) := by decide +kernel
theorem dX1_nearest_13 : decode cX1_nearest 13 = .ok (.if_icmp .ge 85, 3) := by decide +kernel
theorem dX1_nearest_16 : decode cX1_nearest 16 = .ok (.aload_n 0, 1) := by decide +kernel
theorem dX1_nearest_17 : decode cX1_nearest 17 = .ok (.getfield 7, 3) := by decide +kernel
theorem dX1_nearest_20 : decode cX1_nearest 20 = .ok (.iload 5, 2) := by decide +kernel
theorem dX1_nearest_22 : decode cX1_nearest 22 = .ok (.iconst 3, 1) := by decide +kernel
theorem dX1_nearest_23 : decode cX1_nearest 23 = .ok (.imul, 1) := by decide +kernel
theorem dX1_nearest_24 : decode cX1_nearest 24 = .ok (.iload_n 1, 1) := by decide +kernel
theorem dX1_nearest_25 : decode cX1_nearest 25 = .ok (.iadd, 1) := by decide +kernel
theorem dX1_nearest_26 : decode cX1_nearest 26 = .ok (.iaload, 1) := by decide +kernel
theorem dX1_nearest_27 : decode cX1_nearest 27 = .ok (.istore 6, 2) := by decide +kernel
theorem dX1_nearest_29 : decode cX1_nearest 29 = .ok (.aload_n 0, 1) := by decide +kernel
theorem dX1_nearest_30 : decode cX1_nearest 30 = .ok (.iload 5, 2) := by decide +kernel
theorem dX1_nearest_32 : decode cX1_nearest 32 = .ok (.iload_n 1, 1) := by decide +kernel
theorem dX1_nearest_33 : decode cX1_nearest 33 = .ok (.invokevirtual 33, 3) := by decide +kernel
theorem dX1_nearest_36 : decode cX1_nearest 36 = .ok (.ifCond .eq 27, 3) := by decide +kernel
theorem dX1_nearest_39 : decode cX1_nearest 39 = .ok (.aload_n 0, 1) := by decide +kernel
theorem dX1_nearest_40 : decode cX1_nearest 40 = .ok (.getfield 13, 3) := by decide +kernel
theorem dX1_nearest_43 : decode cX1_nearest 43 = .ok (.iload 5, 2) := by decide +kernel
theorem dX1_nearest_45 : decode cX1_nearest 45 = .ok (.iaload, 1) := by decide +kernel
theorem dX1_nearest_46 : decode cX1_nearest 46 = .ok (.iload_n 1, 1) := by decide +kernel
theorem dX1_nearest_47 : decode cX1_nearest 47 = .ok (.if_icmp .le 16, 3) := by decide +kernel
theorem dX1_nearest_50 : decode cX1_nearest 50 = .ok (.iload 6, 2) := by decide +kernel
theorem dX1_nearest_52 : decode cX1_nearest 52 = .ok (.iload_n 2, 1) := by decide +kernel
theorem dX1_nearest_53 : decode cX1_nearest 53 = .ok (.isub, 1) := by decide +kernel
theorem dX1_nearest_54 : decode cX1_nearest 54 = .ok (.iload_n 3, 1) := by decide +kernel
theorem dX1_nearest_55 : decode cX1_nearest 55 = .ok (.imul, 1) := by decide +kernel
theorem dX1_nearest_56 : decode cX1_nearest 56 = .ok (.ifCond .le 7, 3) := by decide +kernel
theorem dX1_nearest_59 : decode cX1_nearest 59 = .ok (.iconst 1, 1) := by decide +kernel
theorem dX1_nearest_60 : decode cX1_nearest 60 = .ok (.goto 4, 3) := by decide +kernel
theorem dX1_nearest_63 : decode cX1_nearest 63 = .ok (.iconst 0, 1) := by decide +kernel
theorem dX1_nearest_64 : decode cX1_nearest 64 = .ok (.istore 7, 2) := by decide +kernel
theorem dX1_nearest_66 : decode cX1_nearest 66 = .ok (.iload 7, 2) := by decide +kernel
theorem dX1_nearest_68 : decode cX1_nearest 68 = .ok (.ifCond .eq 24, 3) := by decide +kernel
theorem dX1_nearest_71 : decode cX1_nearest 71 = .ok (.iload 4, 2) := by decide +kernel
theorem dX1_nearest_73 : decode cX1_nearest 73 = .ok (.bipush (-100), 2) := by decide +kernel
theorem dX1_nearest_75 : decode cX1_nearest 75 = .ok (.if_icmp .eq 13, 3) := by decide +kernel
theorem dX1_nearest_78 : decode cX1_nearest 78 = .ok (.iload 4, 2) := by decide +kernel
theorem dX1_nearest_80 : decode cX1_nearest 80 = .ok (.iload 6, 2) := by decide +kernel
theorem dX1_nearest_82 : decode cX1_nearest 82 = .ok (.isub, 1) := by decide +kernel
theorem dX1_nearest_83 : decode cX1_nearest 83 = .ok (.iload_n 3, 1) := by decide +kernel
theorem dX1_nearest_84 : decode cX1_nearest 84 = .ok (.imul, 1) := by decide +kernel
theorem dX1_nearest_85 : decode cX1_nearest 85 = .ok (.ifCond .le 7, 3) := by decide +kernel
theorem dX1_nearest_88 : decode cX1_nearest 88 = .ok (.iload 6, 2) := by decide +kernel
theorem dX1_nearest_90 : decode cX1_nearest 90 = .ok (.istore 4, 2) := by decide +kernel
theorem dX1_nearest_92 : decode cX1_nearest 92 = .ok (.iinc 5 1, 3) := by decide +kernel
theorem dX1_nearest_95 : decode cX1_nearest 95 = .ok (.goto (-88), 3) := by decide +kernel
theorem dX1_nearest_98 : decode cX1_nearest 98 = .ok (.iload 4, 2) := by decide +kernel
theorem dX1_nearest_100 : decode cX1_nearest 100 = .ok (.ireturn, 1) := by decide +kernel
abbrev cX1_previous : ByteArray := prog_3_method_18_code
def yX1_previous : MethodName := ⟨RX1, "previous", "()I"⟩
theorem dX1_previous_0 : decode cX1_previous 0 = .ok (.aload_n 0, 1) := by decide +kernel
theorem dX1_previous_1 : decode cX1_previous 1 = .ok (.getfield 26, 3) := by decide +kernel
theorem dX1_previous_4 : decode cX1_previous 4 = .ok (.ifCond .ne 8, 3) := by decide +kernel
theorem dX1_previous_7 : decode cX1_previous 7 = .ok (.bipush (-100), 2) := by decide +kernel
theorem dX1_previous_9 : decode cX1_previous 9 = .ok (.goto 25, 3) := by decide +kernel
theorem dX1_previous_12 : decode cX1_previous 12 = .ok (.aload_n 0, 1) := by decide +kernel
theorem dX1_previous_13 : decode cX1_previous 13 = .ok (.aload_n 0, 1) := by decide +kernel
theorem dX1_previous_14 : decode cX1_previous 14 = .ok (.getfield 26, 3) := by decide +kernel
theorem dX1_previous_17 : decode cX1_previous 17 = .ok (.iconst 1, 1) := by decide +kernel
theorem dX1_previous_18 : decode cX1_previous 18 = .ok (.isub, 1) := by decide +kernel
theorem dX1_previous_19 : decode cX1_previous 19 = .ok (.aload_n 0, 1) := by decide +kernel
theorem dX1_previous_20 : decode cX1_previous 20 = .ok (.getfield 19, 3) := by decide +kernel
theorem dX1_previous_23 : decode cX1_previous 23 = .ok (.aload_n 0, 1) := by decide +kernel
theorem dX1_previous_24 : decode cX1_previous 24 = .ok (.getfield 26, 3) := by decide +kernel
theorem dX1_previous_27 : decode cX1_previous 27 = .ok (.iconst 1, 1) := by decide +kernel
theorem dX1_previous_28 : decode cX1_previous 28 = .ok (.isub, 1) := by decide +kernel
theorem dX1_previous_29 : decode cX1_previous 29 = .ok (.iaload, 1) := by decide +kernel
theorem dX1_previous_30 : decode cX1_previous 30 = .ok (.iconst (-1), 1) := by decide +kernel
theorem dX1_previous_31 : decode cX1_previous 31 = .ok (.invokevirtual 56, 3) := by decide +kernel
theorem dX1_previous_34 : decode cX1_previous 34 = .ok (.ireturn, 1) := by decide +kernel
abbrev cX1_first : ByteArray := prog_3_method_19_code
def yX1_first : MethodName := ⟨RX1, "first", "()I"⟩
theorem dX1_first_0 : decode cX1_first 0 = .ok (.aload_n 0, 1) := by decide +kernel
theorem dX1_first_1 : decode cX1_first 1 = .ok (.getfield 26, 3) := by decide +kernel
theorem dX1_first_4 : decode cX1_first 4 = .ok (.iconst 3, 1) := by decide +kernel
theorem dX1_first_5 : decode cX1_first 5 = .ok (.if_icmp .ne 8, 3) := by decide +kernel
theorem dX1_first_8 : decode cX1_first 8 = .ok (.bipush (-100), 2) := by decide +kernel
theorem dX1_first_10 : decode cX1_first 10 = .ok (.goto 14, 3) := by decide +kernel
theorem dX1_first_13 : decode cX1_first 13 = .ok (.aload_n 0, 1) := by decide +kernel
theorem dX1_first_14 : decode cX1_first 14 = .ok (.aload_n 0, 1) := by decide +kernel
theorem dX1_first_15 : decode cX1_first 15 = .ok (.getfield 26, 3) := by decide +kernel
theorem dX1_first_18 : decode cX1_first 18 = .ok (.bipush (-51), 2) := by decide +kernel
theorem dX1_first_20 : decode cX1_first 20 = .ok (.iconst 1, 1) := by decide +kernel
theorem dX1_first_21 : decode cX1_first 21 = .ok (.invokevirtual 56, 3) := by decide +kernel
theorem dX1_first_24 : decode cX1_first 24 = .ok (.ireturn, 1) := by decide +kernel
abbrev cX1_query : ByteArray := prog_3_method_22_code
def yX1_query : MethodName := ⟨RX1, "query", "()I"⟩
theorem dX1_query_0 : decode cX1_query 0 = .ok (.iconst (-1), 1) := by decide +kernel
theorem dX1_query_1 : decode cX1_query 1 = .ok (.istore_n 1, 1) := by decide +kernel
theorem dX1_query_2 : decode cX1_query 2 = .ok (.iconst 0, 1) := by decide +kernel
theorem dX1_query_3 : decode cX1_query 3 = .ok (.istore_n 2, 1) := by decide +kernel
theorem dX1_query_4 : decode cX1_query 4 = .ok (.iload_n 2, 1) := by decide +kernel
theorem dX1_query_5 : decode cX1_query 5 = .ok (.aload_n 0, 1) := by decide +kernel
theorem dX1_query_6 : decode cX1_query 6 = .ok (.getfield 30, 3) := by decide +kernel
theorem dX1_query_9 : decode cX1_query 9 = .ok (.if_icmp .ge 32, 3) := by decide +kernel
theorem dX1_query_12 : decode cX1_query 12 = .ok (.aload_n 0, 1) := by decide +kernel
theorem dX1_query_13 : decode cX1_query 13 = .ok (.iload_n 2, 1) := by decide +kernel
theorem dX1_query_14 : decode cX1_query 14 = .ok (.invokevirtual 59, 3) := by decide +kernel
theorem dX1_query_17 : decode cX1_query 17 = .ok (.ifCond .le 18, 3) := by decide +kernel
theorem dX1_query_20 : decode cX1_query 20 = .ok (.iload_n 1, 1) := by decide +kernel
theorem dX1_query_21 : decode cX1_query 21 = .ok (.ifCond .lt 12, 3) := by decide +kernel
theorem dX1_query_24 : decode cX1_query 24 = .ok (.aload_n 0, 1) := by decide +kernel
theorem dX1_query_25 : decode cX1_query 25 = .ok (.iload_n 2, 1) := by decide +kernel
theorem dX1_query_26 : decode cX1_query 26 = .ok (.iload_n 1, 1) := by decide +kernel
theorem dX1_query_27 : decode cX1_query 27 = .ok (.invokevirtual 62, 3) := by decide +kernel
theorem dX1_query_30 : decode cX1_query 30 = .ok (.ifCond .eq 5, 3) := by decide +kernel
theorem dX1_query_33 : decode cX1_query 33 = .ok (.iload_n 2, 1) := by decide +kernel
theorem dX1_query_34 : decode cX1_query 34 = .ok (.istore_n 1, 1) := by decide +kernel
theorem dX1_query_35 : decode cX1_query 35 = .ok (.iinc 2 1, 3) := by decide +kernel
theorem dX1_query_38 : decode cX1_query 38 = .ok (.goto (-34), 3) := by decide +kernel
theorem dX1_query_41 : decode cX1_query 41 = .ok (.iload_n 1, 1) := by decide +kernel
theorem dX1_query_42 : decode cX1_query 42 = .ok (.ifCond .ge 7, 3) := by decide +kernel
theorem dX1_query_45 : decode cX1_query 45 = .ok (.iconst 0, 1) := by decide +kernel
theorem dX1_query_46 : decode cX1_query 46 = .ok (.goto 9, 3) := by decide +kernel
theorem dX1_query_49 : decode cX1_query 49 = .ok (.aload_n 0, 1) := by decide +kernel
theorem dX1_query_50 : decode cX1_query 50 = .ok (.getfield 16, 3) := by decide +kernel
theorem dX1_query_53 : decode cX1_query 53 = .ok (.iload_n 1, 1) := by decide +kernel
theorem dX1_query_54 : decode cX1_query 54 = .ok (.iaload, 1) := by decide +kernel
theorem dX1_query_55 : decode cX1_query 55 = .ok (.ireturn, 1) := by decide +kernel
abbrev cX1_order : ByteArray := prog_3_method_20_code
def yX1_order : MethodName := ⟨RX1, "order", "(I)I"⟩
theorem dX1_order_0 : decode cX1_order 0 = .ok (.iconst 0, 1) := by decide +kernel
theorem dX1_order_1 : decode cX1_order 1 = .ok (.istore_n 2, 1) := by decide +kernel
theorem dX1_order_2 : decode cX1_order 2 = .ok (.iload_n 2, 1) := by decide +kernel
theorem dX1_order_3 : decode cX1_order 3 = .ok (.iconst 3, 1) := by decide +kernel
theorem dX1_order_4 : decode cX1_order 4 = .ok (.if_icmp .ge 74, 3) := by decide +kernel
theorem dX1_order_7 : decode cX1_order 7 = .ok (.iload_n 2, 1) := by decide +kernel
theorem dX1_order_8 : decode cX1_order 8 = .ok (.aload_n 0, 1) := by decide +kernel
theorem dX1_order_9 : decode cX1_order 9 = .ok (.getfield 13, 3) := by decide +kernel
theorem dX1_order_12 : decode cX1_order 12 = .ok (.iload_n 1, 1) := by decide +kernel
theorem dX1_order_13 : decode cX1_order 13 = .ok (.iaload, 1) := by decide +kernel
theorem dX1_order_14 : decode cX1_order 14 = .ok (.if_icmp .ge 16, 3) := by decide +kernel
theorem dX1_order_17 : decode cX1_order 17 = .ok (.aload_n 0, 1) := by decide +kernel
theorem dX1_order_18 : decode cX1_order 18 = .ok (.getfield 7, 3) := by decide +kernel
theorem dX1_order_21 : decode cX1_order 21 = .ok (.iload_n 1, 1) := by decide +kernel
theorem dX1_order_22 : decode cX1_order 22 = .ok (.iconst 3, 1) := by decide +kernel
theorem dX1_order_23 : decode cX1_order 23 = .ok (.imul, 1) := by decide +kernel
theorem dX1_order_24 : decode cX1_order 24 = .ok (.iload_n 2, 1) := by decide +kernel
theorem dX1_order_25 : decode cX1_order 25 = .ok (.iadd, 1) := by decide +kernel
theorem dX1_order_26 : decode cX1_order 26 = .ok (.iaload, 1) := by decide +kernel
theorem dX1_order_27 : decode cX1_order 27 = .ok (.goto 5, 3) := by decide +kernel
theorem dX1_order_30 : decode cX1_order 30 = .ok (.bipush (-51), 2) := by decide +kernel
theorem dX1_order_32 : decode cX1_order 32 = .ok (.istore_n 3, 1) := by decide +kernel
theorem dX1_order_33 : decode cX1_order 33 = .ok (.iload_n 2, 1) := by decide +kernel
theorem dX1_order_34 : decode cX1_order 34 = .ok (.aload_n 0, 1) := by decide +kernel
theorem dX1_order_35 : decode cX1_order 35 = .ok (.getfield 26, 3) := by decide +kernel
theorem dX1_order_38 : decode cX1_order 38 = .ok (.if_icmp .ge 12, 3) := by decide +kernel
theorem dX1_order_41 : decode cX1_order 41 = .ok (.aload_n 0, 1) := by decide +kernel
theorem dX1_order_42 : decode cX1_order 42 = .ok (.getfield 19, 3) := by decide +kernel
theorem dX1_order_45 : decode cX1_order 45 = .ok (.iload_n 2, 1) := by decide +kernel
theorem dX1_order_46 : decode cX1_order 46 = .ok (.iaload, 1) := by decide +kernel
theorem dX1_order_47 : decode cX1_order 47 = .ok (.goto 5, 3) := by decide +kernel
theorem dX1_order_50 : decode cX1_order 50 = .ok (.bipush (-51), 2) := by decide +kernel
theorem dX1_order_52 : decode cX1_order 52 = .ok (.istore 4, 2) := by decide +kernel
theorem dX1_order_54 : decode cX1_order 54 = .ok (.iload_n 3, 1) := by decide +kernel
theorem dX1_order_55 : decode cX1_order 55 = .ok (.iload 4, 2) := by decide +kernel
theorem dX1_order_57 : decode cX1_order 57 = .ok (.if_icmp .eq 15, 3) := by decide +kernel
theorem dX1_order_60 : decode cX1_order 60 = .ok (.iload_n 3, 1) := by decide +kernel
theorem dX1_order_61 : decode cX1_order 61 = .ok (.iload 4, 2) := by decide +kernel
theorem dX1_order_63 : decode cX1_order 63 = .ok (.if_icmp .ge 7, 3) := by decide +kernel
theorem dX1_order_66 : decode cX1_order 66 = .ok (.iconst (-1), 1) := by decide +kernel
theorem dX1_order_67 : decode cX1_order 67 = .ok (.goto 4, 3) := by decide +kernel
theorem dX1_order_70 : decode cX1_order 70 = .ok (.iconst 1, 1) := by decide +kernel
theorem dX1_order_71 : decode cX1_order 71 = .ok (.ireturn, 1) := by decide +kernel
theorem dX1_order_72 : decode cX1_order 72 = .ok (.iinc 2 1, 3) := by decide +kernel
theorem dX1_order_75 : decode cX1_order 75 = .ok (.goto (-73), 3) := by decide +kernel
theorem dX1_order_78 : decode cX1_order 78 = .ok (.iconst 0, 1) := by decide +kernel
theorem dX1_order_79 : decode cX1_order 79 = .ok (.ireturn, 1) := by decide +kernel
abbrev cX1_earlier : ByteArray := prog_3_method_21_code
def yX1_earlier : MethodName := ⟨RX1, "earlier", "(II)Z"⟩
theorem dX1_earlier_0 : decode cX1_earlier 0 = .ok (.iconst 0, 1) := by decide +kernel
theorem dX1_earlier_1 : decode cX1_earlier 1 = .ok (.istore_n 3, 1) := by decide +kernel
theorem dX1_earlier_2 : decode cX1_earlier 2 = .ok (.iload_n 3, 1) := by decide +kernel
theorem dX1_earlier_3 : decode cX1_earlier 3 = .ok (.iconst 3, 1) := by decide +kernel
theorem dX1_earlier_4 : decode cX1_earlier 4 = .ok (.if_icmp .ge 83, 3) := by decide +kernel
theorem dX1_earlier_7 : decode cX1_earlier 7 = .ok (.iload_n 3, 1) := by decide +kernel
theorem dX1_earlier_8 : decode cX1_earlier 8 = .ok (.aload_n 0, 1) := by decide +kernel
theorem dX1_earlier_9 : decode cX1_earlier 9 = .ok (.getfield 13, 3) := by decide +kernel
theorem dX1_earlier_12 : decode cX1_earlier 12 = .ok (.iload_n 1, 1) := by decide +kernel
theorem dX1_earlier_13 : decode cX1_earlier 13 = .ok (.iaload, 1) := by decide +kernel
theorem dX1_earlier_14 : decode cX1_earlier 14 = .ok (.if_icmp .ge 16, 3) := by decide +kernel
theorem dX1_earlier_17 : decode cX1_earlier 17 = .ok (.aload_n 0, 1) := by decide +kernel
theorem dX1_earlier_18 : decode cX1_earlier 18 = .ok (.getfield 7, 3) := by decide +kernel
theorem dX1_earlier_21 : decode cX1_earlier 21 = .ok (.iload_n 1, 1) := by decide +kernel
theorem dX1_earlier_22 : decode cX1_earlier 22 = .ok (.iconst 3, 1) := by decide +kernel
theorem dX1_earlier_23 : decode cX1_earlier 23 = .ok (.imul, 1) := by decide +kernel
theorem dX1_earlier_24 : decode cX1_earlier 24 = .ok (.iload_n 3, 1) := by decide +kernel
theorem dX1_earlier_25 : decode cX1_earlier 25 = .ok (.iadd, 1) := by decide +kernel
theorem dX1_earlier_26 : decode cX1_earlier 26 = .ok (.iaload, 1) := by decide +kernel
theorem dX1_earlier_27 : decode cX1_earlier 27 = .ok (.goto 5, 3) := by decide +kernel
theorem dX1_earlier_30 : decode cX1_earlier 30 = .ok (.bipush (-51), 2) := by decide +kernel
theorem dX1_earlier_32 : decode cX1_earlier 32 = .ok (.istore 4, 2) := by decide +kernel
theorem dX1_earlier_34 : decode cX1_earlier 34 = .ok (.iload_n 3, 1) := by decide +kernel
theorem dX1_earlier_35 : decode cX1_earlier 35 = .ok (.aload_n 0, 1) := by decide +kernel
theorem dX1_earlier_36 : decode cX1_earlier 36 = .ok (.getfield 13, 3) := by decide +kernel
theorem dX1_earlier_39 : decode cX1_earlier 39 = .ok (.iload_n 2, 1) := by decide +kernel
theorem dX1_earlier_40 : decode cX1_earlier 40 = .ok (.iaload, 1) := by decide +kernel
theorem dX1_earlier_41 : decode cX1_earlier 41 = .ok (.if_icmp .ge 16, 3) := by decide +kernel
theorem dX1_earlier_44 : decode cX1_earlier 44 = .ok (.aload_n 0, 1) := by decide +kernel
theorem dX1_earlier_45 : decode cX1_earlier 45 = .ok (.getfield 7, 3) := by decide +kernel
theorem dX1_earlier_48 : decode cX1_earlier 48 = .ok (.iload_n 2, 1) := by decide +kernel
theorem dX1_earlier_49 : decode cX1_earlier 49 = .ok (.iconst 3, 1) := by decide +kernel
theorem dX1_earlier_50 : decode cX1_earlier 50 = .ok (.imul, 1) := by decide +kernel
theorem dX1_earlier_51 : decode cX1_earlier 51 = .ok (.iload_n 3, 1) := by decide +kernel
theorem dX1_earlier_52 : decode cX1_earlier 52 = .ok (.iadd, 1) := by decide +kernel
theorem dX1_earlier_53 : decode cX1_earlier 53 = .ok (.iaload, 1) := by decide +kernel
theorem dX1_earlier_54 : decode cX1_earlier 54 = .ok (.goto 5, 3) := by decide +kernel
theorem dX1_earlier_57 : decode cX1_earlier 57 = .ok (.bipush (-51), 2) := by decide +kernel
theorem dX1_earlier_59 : decode cX1_earlier 59 = .ok (.istore 5, 2) := by decide +kernel
theorem dX1_earlier_61 : decode cX1_earlier 61 = .ok (.iload 4, 2) := by decide +kernel
theorem dX1_earlier_63 : decode cX1_earlier 63 = .ok (.iload 5, 2) := by decide +kernel
theorem dX1_earlier_65 : decode cX1_earlier 65 = .ok (.if_icmp .eq 16, 3) := by decide +kernel
theorem dX1_earlier_68 : decode cX1_earlier 68 = .ok (.iload 4, 2) := by decide +kernel
theorem dX1_earlier_70 : decode cX1_earlier 70 = .ok (.iload 5, 2) := by decide +kernel
theorem dX1_earlier_72 : decode cX1_earlier 72 = .ok (.if_icmp .ge 7, 3) := by decide +kernel
theorem dX1_earlier_75 : decode cX1_earlier 75 = .ok (.iconst 1, 1) := by decide +kernel
theorem dX1_earlier_76 : decode cX1_earlier 76 = .ok (.goto 4, 3) := by decide +kernel
theorem dX1_earlier_79 : decode cX1_earlier 79 = .ok (.iconst 0, 1) := by decide +kernel
theorem dX1_earlier_80 : decode cX1_earlier 80 = .ok (.ireturn, 1) := by decide +kernel
theorem dX1_earlier_81 : decode cX1_earlier 81 = .ok (.iinc 3 1, 3) := by decide +kernel
theorem dX1_earlier_84 : decode cX1_earlier 84 = .ok (.goto (-82), 3) := by decide +kernel
theorem dX1_earlier_87 : decode cX1_earlier 87 = .ok (.iconst 0, 1) := by decide +kernel
theorem dX1_earlier_88 : decode cX1_earlier 88 = .ok (.ireturn, 1) := by decide +kernel
abbrev cX1_before : ByteArray := prog_3_method_23_code
def yX1_before : MethodName := ⟨RX1, "before", "()I"⟩
theorem dX1_before_0 : decode cX1_before 0 = .ok (.iconst 0, 1) := by decide +kernel
theorem dX1_before_1 : decode cX1_before 1 = .ok (.istore_n 1, 1) := by decide +kernel
theorem dX1_before_2 : decode cX1_before 2 = .ok (.iconst 0, 1) := by decide +kernel
theorem dX1_before_3 : decode cX1_before 3 = .ok (.istore_n 2, 1) := by decide +kernel
theorem dX1_before_4 : decode cX1_before 4 = .ok (.iload_n 2, 1) := by decide +kernel
theorem dX1_before_5 : decode cX1_before 5 = .ok (.aload_n 0, 1) := by decide +kernel
theorem dX1_before_6 : decode cX1_before 6 = .ok (.getfield 30, 3) := by decide +kernel
theorem dX1_before_9 : decode cX1_before 9 = .ok (.if_icmp .ge 20, 3) := by decide +kernel
theorem dX1_before_12 : decode cX1_before 12 = .ok (.aload_n 0, 1) := by decide +kernel
theorem dX1_before_13 : decode cX1_before 13 = .ok (.iload_n 2, 1) := by decide +kernel
theorem dX1_before_14 : decode cX1_before 14 = .ok (.invokevirtual 59, 3) := by decide +kernel
theorem dX1_before_17 : decode cX1_before 17 = .ok (.ifCond .ge 6, 3) := by decide +kernel
theorem dX1_before_20 : decode cX1_before 20 = .ok (.iinc 1 1, 3) := by decide +kernel
theorem dX1_before_23 : decode cX1_before 23 = .ok (.iinc 2 1, 3) := by decide +kernel
theorem dX1_before_26 : decode cX1_before 26 = .ok (.goto (-22), 3) := by decide +kernel
theorem dX1_before_29 : decode cX1_before 29 = .ok (.iload_n 1, 1) := by decide +kernel
theorem dX1_before_30 : decode cX1_before 30 = .ok (.ireturn, 1) := by decide +kernel
abbrev cX1_count : ByteArray := prog_3_method_24_code
def yX1_count : MethodName := ⟨RX1, "count", "()I"⟩
theorem dX1_count_0 : decode cX1_count 0 = .ok (.aload_n 0, 1) := by decide +kernel
theorem dX1_count_1 : decode cX1_count 1 = .ok (.getfield 30, 3) := by decide +kernel
theorem dX1_count_4 : decode cX1_count 4 = .ok (.ireturn, 1) := by decide +kernel
end
section
set_option maxRecDepth 100000
theorem q24 : (Jvm.Cond.initialized "GlobalTreeModel") ∈ lw_all := lw_g (lw_at lw_m1 2 rfl) rfl
theorem q201 : (Jvm.Cond.instantiable "GlobalTreeModel" (6 : Nat)) ∈ lw_all := lw_g (lw_at lw_m1 179 rfl) rfl
theorem q203 : (Jvm.Cond.instanceMethod ({ cls := "GlobalTreeModel", name := "<init>", desc := "()V" } : Jvm.MethodName)) ∈ lw_all := lw_g (lw_at lw_m1 181 rfl) rfl
theorem q204 : (Jvm.Cond.code ({ cls := "GlobalTreeModel", name := "<init>", desc := "()V" } : Jvm.MethodName) prog_3_method_1_code (1 : Nat) (Option.none : Option Jvm.ClassFile.FieldType)) ∈ lw_all := lw_g (lw_at lw_m1 182 rfl) rfl
theorem q205 : (Jvm.Cond.methodLink "GlobalTreeModel" (1 : Nat) ({ cls := "java/lang/Object", name := "<init>", desc := "()V" } : Jvm.MethodName)) ∈ lw_all := lw_g (lw_at lw_m1 183 rfl) rfl
theorem q206 : (Jvm.Cond.fieldLink "GlobalTreeModel" (7 : Nat) "GlobalTreeModel" "lists" "[I") ∈ lw_all := lw_g (lw_at lw_m1 184 rfl) rfl
theorem q207 : (Jvm.Cond.fieldLink "GlobalTreeModel" (13 : Nat) "GlobalTreeModel" "lengths" "[I") ∈ lw_all := lw_g (lw_at lw_m1 185 rfl) rfl
theorem q208 : (Jvm.Cond.fieldLink "GlobalTreeModel" (16 : Nat) "GlobalTreeModel" "values" "[I") ∈ lw_all := lw_g (lw_at lw_m1 186 rfl) rfl
theorem q209 : (Jvm.Cond.fieldLink "GlobalTreeModel" (30 : Nat) "GlobalTreeModel" "nodes" "I") ∈ lw_all := lw_g (lw_at lw_m1 187 rfl) rfl
theorem q210 : (Jvm.Cond.fieldLink "GlobalTreeModel" (19 : Nat) "GlobalTreeModel" "pointer" "[I") ∈ lw_all := lw_g (lw_at lw_m1 188 rfl) rfl
theorem q211 : (Jvm.Cond.fieldLink "GlobalTreeModel" (26 : Nat) "GlobalTreeModel" "depth" "I") ∈ lw_all := lw_g (lw_at lw_m1 189 rfl) rfl
theorem q212 : (Jvm.Cond.laysFinal "GlobalTreeModel" "GlobalTreeModel" "lists" "[I") ∈ lw_all := lw_g (lw_at lw_m1 190 rfl) rfl
theorem q213 : (Jvm.Cond.soleField "GlobalTreeModel" "lists") ∈ lw_all := lw_g (lw_at lw_m1 191 rfl) rfl
theorem q214 : (Jvm.Cond.laysFinal "GlobalTreeModel" "GlobalTreeModel" "lengths" "[I") ∈ lw_all := lw_g (lw_at lw_m1 192 rfl) rfl
theorem q215 : (Jvm.Cond.soleField "GlobalTreeModel" "lengths") ∈ lw_all := lw_g (lw_at lw_m1 193 rfl) rfl
theorem q216 : (Jvm.Cond.laysFinal "GlobalTreeModel" "GlobalTreeModel" "values" "[I") ∈ lw_all := lw_g (lw_at lw_m1 194 rfl) rfl
theorem q217 : (Jvm.Cond.soleField "GlobalTreeModel" "values") ∈ lw_all := lw_g (lw_at lw_m1 195 rfl) rfl
theorem q218 : (Jvm.Cond.lays "GlobalTreeModel" "GlobalTreeModel" "nodes" "I") ∈ lw_all := lw_g (lw_at lw_m1 196 rfl) rfl
theorem q219 : (Jvm.Cond.soleField "GlobalTreeModel" "nodes") ∈ lw_all := lw_g (lw_at lw_m1 197 rfl) rfl
theorem q220 : (Jvm.Cond.laysFinal "GlobalTreeModel" "GlobalTreeModel" "pointer" "[I") ∈ lw_all := lw_g (lw_at lw_m1 198 rfl) rfl
theorem q221 : (Jvm.Cond.soleField "GlobalTreeModel" "pointer") ∈ lw_all := lw_g (lw_at lw_m1 199 rfl) rfl
theorem q222 : (Jvm.Cond.lays "GlobalTreeModel" "GlobalTreeModel" "depth" "I") ∈ lw_all := lw_g (lw_at lw_m1 200 rfl) rfl
theorem q223 : (Jvm.Cond.soleField "GlobalTreeModel" "depth") ∈ lw_all := lw_g (lw_at lw_m1 201 rfl) rfl
theorem q224 : (Jvm.Cond.superclass "GlobalTreeModel" "java/lang/Object") ∈ lw_all := lw_g (lw_at lw_m1 202 rfl) rfl
theorem q226 : (Jvm.Cond.instanceMethod ({ cls := "GlobalTreeModel", name := "down", desc := "(I)I" } : Jvm.MethodName)) ∈ lw_all := lw_g (lw_at lw_m1 204 rfl) rfl
theorem q227 : (Jvm.Cond.selects "GlobalTreeModel" ({ cls := "GlobalTreeModel", name := "down", desc := "(I)I" } : Jvm.MethodName) ({ cls := "GlobalTreeModel", name := "down", desc := "(I)I" } : Jvm.MethodName)) ∈ lw_all := lw_g (lw_at lw_m1 205 rfl) rfl
theorem q228 : (Jvm.Cond.code ({ cls := "GlobalTreeModel", name := "down", desc := "(I)I" } : Jvm.MethodName) prog_3_method_3_code (2 : Nat) (Option.some Jvm.ClassFile.FieldType.int)) ∈ lw_all := lw_g (lw_at lw_m1 206 rfl) rfl
theorem q229 : (Jvm.Cond.methodLink "GlobalTreeModel" (22 : Nat) ({ cls := "GlobalTreeModel", name := "isSubscript", desc := "(I)Z" } : Jvm.MethodName)) ∈ lw_all := lw_g (lw_at lw_m1 207 rfl) rfl
theorem q230 : (Jvm.Cond.privateMethod ({ cls := "GlobalTreeModel", name := "isSubscript", desc := "(I)Z" } : Jvm.MethodName)) ∈ lw_tbl := lw_at lw_m1 208 rfl
theorem q231 : (Jvm.Cond.instanceMethod ({ cls := "GlobalTreeModel", name := "isSubscript", desc := "(I)Z" } : Jvm.MethodName)) ∈ lw_all := lw_g (lw_at lw_m1 209 rfl) rfl
theorem q232 : (Jvm.Cond.code ({ cls := "GlobalTreeModel", name := "isSubscript", desc := "(I)Z" } : Jvm.MethodName) prog_3_method_2_code (2 : Nat) (Option.some Jvm.ClassFile.FieldType.boolean)) ∈ lw_all := lw_g (lw_at lw_m1 210 rfl) rfl
theorem q234 : (Jvm.Cond.instanceMethod ({ cls := "GlobalTreeModel", name := "up", desc := "()I" } : Jvm.MethodName)) ∈ lw_all := lw_g (lw_at lw_m1 212 rfl) rfl
theorem q235 : (Jvm.Cond.selects "GlobalTreeModel" ({ cls := "GlobalTreeModel", name := "up", desc := "()I" } : Jvm.MethodName) ({ cls := "GlobalTreeModel", name := "up", desc := "()I" } : Jvm.MethodName)) ∈ lw_all := lw_g (lw_at lw_m1 213 rfl) rfl
theorem q236 : (Jvm.Cond.code ({ cls := "GlobalTreeModel", name := "up", desc := "()I" } : Jvm.MethodName) prog_3_method_4_code (1 : Nat) (Option.some Jvm.ClassFile.FieldType.int)) ∈ lw_all := lw_g (lw_at lw_m1 214 rfl) rfl
theorem q238 : (Jvm.Cond.instanceMethod ({ cls := "GlobalTreeModel", name := "turn", desc := "(I)I" } : Jvm.MethodName)) ∈ lw_all := lw_g (lw_at lw_m1 216 rfl) rfl
theorem q239 : (Jvm.Cond.selects "GlobalTreeModel" ({ cls := "GlobalTreeModel", name := "turn", desc := "(I)I" } : Jvm.MethodName) ({ cls := "GlobalTreeModel", name := "turn", desc := "(I)I" } : Jvm.MethodName)) ∈ lw_all := lw_g (lw_at lw_m1 217 rfl) rfl
theorem q240 : (Jvm.Cond.code ({ cls := "GlobalTreeModel", name := "turn", desc := "(I)I" } : Jvm.MethodName) prog_3_method_5_code (3 : Nat) (Option.some Jvm.ClassFile.FieldType.int)) ∈ lw_all := lw_g (lw_at lw_m1 218 rfl) rfl
theorem q242 : (Jvm.Cond.instanceMethod ({ cls := "GlobalTreeModel", name := "set", desc := "(I)I" } : Jvm.MethodName)) ∈ lw_all := lw_g (lw_at lw_m1 220 rfl) rfl
theorem q243 : (Jvm.Cond.selects "GlobalTreeModel" ({ cls := "GlobalTreeModel", name := "set", desc := "(I)I" } : Jvm.MethodName) ({ cls := "GlobalTreeModel", name := "set", desc := "(I)I" } : Jvm.MethodName)) ∈ lw_all := lw_g (lw_at lw_m1 221 rfl) rfl
theorem q244 : (Jvm.Cond.code ({ cls := "GlobalTreeModel", name := "set", desc := "(I)I" } : Jvm.MethodName) prog_3_method_8_code (4 : Nat) (Option.some Jvm.ClassFile.FieldType.int)) ∈ lw_all := lw_g (lw_at lw_m1 222 rfl) rfl
theorem q245 : (Jvm.Cond.methodLink "GlobalTreeModel" (37 : Nat) ({ cls := "GlobalTreeModel", name := "here", desc := "()I" } : Jvm.MethodName)) ∈ lw_all := lw_g (lw_at lw_m1 223 rfl) rfl
theorem q246 : (Jvm.Cond.privateMethod ({ cls := "GlobalTreeModel", name := "here", desc := "()I" } : Jvm.MethodName)) ∈ lw_tbl := lw_at lw_m1 224 rfl
theorem q247 : (Jvm.Cond.instanceMethod ({ cls := "GlobalTreeModel", name := "here", desc := "()I" } : Jvm.MethodName)) ∈ lw_all := lw_g (lw_at lw_m1 225 rfl) rfl
theorem q248 : (Jvm.Cond.code ({ cls := "GlobalTreeModel", name := "here", desc := "()I" } : Jvm.MethodName) prog_3_method_7_code (2 : Nat) (Option.some Jvm.ClassFile.FieldType.int)) ∈ lw_all := lw_g (lw_at lw_m1 226 rfl) rfl
theorem q249 : (Jvm.Cond.methodLink "GlobalTreeModel" (33 : Nat) ({ cls := "GlobalTreeModel", name := "begins", desc := "(II)Z" } : Jvm.MethodName)) ∈ lw_all := lw_g (lw_at lw_m1 227 rfl) rfl
theorem q250 : (Jvm.Cond.privateMethod ({ cls := "GlobalTreeModel", name := "begins", desc := "(II)Z" } : Jvm.MethodName)) ∈ lw_tbl := lw_at lw_m1 228 rfl
theorem q251 : (Jvm.Cond.instanceMethod ({ cls := "GlobalTreeModel", name := "begins", desc := "(II)Z" } : Jvm.MethodName)) ∈ lw_all := lw_g (lw_at lw_m1 229 rfl) rfl
theorem q252 : (Jvm.Cond.code ({ cls := "GlobalTreeModel", name := "begins", desc := "(II)Z" } : Jvm.MethodName) prog_3_method_6_code (4 : Nat) (Option.some Jvm.ClassFile.FieldType.boolean)) ∈ lw_all := lw_g (lw_at lw_m1 230 rfl) rfl
theorem q254 : (Jvm.Cond.instanceMethod ({ cls := "GlobalTreeModel", name := "increment", desc := "(I)I" } : Jvm.MethodName)) ∈ lw_all := lw_g (lw_at lw_m1 232 rfl) rfl
theorem q255 : (Jvm.Cond.selects "GlobalTreeModel" ({ cls := "GlobalTreeModel", name := "increment", desc := "(I)I" } : Jvm.MethodName) ({ cls := "GlobalTreeModel", name := "increment", desc := "(I)I" } : Jvm.MethodName)) ∈ lw_all := lw_g (lw_at lw_m1 233 rfl) rfl
theorem q256 : (Jvm.Cond.code ({ cls := "GlobalTreeModel", name := "increment", desc := "(I)I" } : Jvm.MethodName) prog_3_method_9_code (4 : Nat) (Option.some Jvm.ClassFile.FieldType.int)) ∈ lw_all := lw_g (lw_at lw_m1 234 rfl) rfl
theorem q257 : (Jvm.Cond.methodLink "GlobalTreeModel" (41 : Nat) ({ cls := "GlobalTreeModel", name := "value", desc := "()I" } : Jvm.MethodName)) ∈ lw_all := lw_g (lw_at lw_m1 235 rfl) rfl
theorem q258 : (Jvm.Cond.instanceMethod ({ cls := "GlobalTreeModel", name := "value", desc := "()I" } : Jvm.MethodName)) ∈ lw_all := lw_g (lw_at lw_m1 236 rfl) rfl
theorem q259 : (Jvm.Cond.selects "GlobalTreeModel" ({ cls := "GlobalTreeModel", name := "value", desc := "()I" } : Jvm.MethodName) ({ cls := "GlobalTreeModel", name := "value", desc := "()I" } : Jvm.MethodName)) ∈ lw_all := lw_g (lw_at lw_m1 237 rfl) rfl
theorem q260 : (Jvm.Cond.code ({ cls := "GlobalTreeModel", name := "value", desc := "()I" } : Jvm.MethodName) prog_3_method_15_code (2 : Nat) (Option.some Jvm.ClassFile.FieldType.int)) ∈ lw_all := lw_g (lw_at lw_m1 238 rfl) rfl
theorem q261 : (Jvm.Cond.methodLink "GlobalTreeModel" (44 : Nat) ({ cls := "GlobalTreeModel", name := "set", desc := "(I)I" } : Jvm.MethodName)) ∈ lw_all := lw_g (lw_at lw_m1 239 rfl) rfl
theorem q263 : (Jvm.Cond.instanceMethod ({ cls := "GlobalTreeModel", name := "kill", desc := "()I" } : Jvm.MethodName)) ∈ lw_all := lw_g (lw_at lw_m2 1 rfl) rfl
theorem q264 : (Jvm.Cond.selects "GlobalTreeModel" ({ cls := "GlobalTreeModel", name := "kill", desc := "()I" } : Jvm.MethodName) ({ cls := "GlobalTreeModel", name := "kill", desc := "()I" } : Jvm.MethodName)) ∈ lw_all := lw_g (lw_at lw_m2 2 rfl) rfl
theorem q265 : (Jvm.Cond.code ({ cls := "GlobalTreeModel", name := "kill", desc := "()I" } : Jvm.MethodName) prog_3_method_10_code (4 : Nat) (Option.some Jvm.ClassFile.FieldType.int)) ∈ lw_all := lw_g (lw_at lw_m2 3 rfl) rfl
theorem q267 : (Jvm.Cond.instanceMethod ({ cls := "GlobalTreeModel", name := "merge", desc := "(I)I" } : Jvm.MethodName)) ∈ lw_all := lw_g (lw_at lw_m2 5 rfl) rfl
theorem q268 : (Jvm.Cond.selects "GlobalTreeModel" ({ cls := "GlobalTreeModel", name := "merge", desc := "(I)I" } : Jvm.MethodName) ({ cls := "GlobalTreeModel", name := "merge", desc := "(I)I" } : Jvm.MethodName)) ∈ lw_all := lw_g (lw_at lw_m2 6 rfl) rfl
theorem q269 : (Jvm.Cond.code ({ cls := "GlobalTreeModel", name := "merge", desc := "(I)I" } : Jvm.MethodName) prog_3_method_12_code (6 : Nat) (Option.some Jvm.ClassFile.FieldType.int)) ∈ lw_all := lw_g (lw_at lw_m2 7 rfl) rfl
theorem q270 : (Jvm.Cond.methodLink "GlobalTreeModel" (48 : Nat) ({ cls := "GlobalTreeModel", name := "twin", desc := "(III)I" } : Jvm.MethodName)) ∈ lw_all := lw_g (lw_at lw_m2 8 rfl) rfl
theorem q271 : (Jvm.Cond.privateMethod ({ cls := "GlobalTreeModel", name := "twin", desc := "(III)I" } : Jvm.MethodName)) ∈ lw_tbl := lw_at lw_m2 9 rfl
theorem q272 : (Jvm.Cond.instanceMethod ({ cls := "GlobalTreeModel", name := "twin", desc := "(III)I" } : Jvm.MethodName)) ∈ lw_all := lw_g (lw_at lw_m2 10 rfl) rfl
theorem q273 : (Jvm.Cond.code ({ cls := "GlobalTreeModel", name := "twin", desc := "(III)I" } : Jvm.MethodName) prog_3_method_11_code (7 : Nat) (Option.some Jvm.ClassFile.FieldType.int)) ∈ lw_all := lw_g (lw_at lw_m2 11 rfl) rfl
theorem q274 : (Jvm.Cond.methodLink "GlobalTreeModel" (52 : Nat) ({ cls := "GlobalTreeModel", name := "place", desc := "(II)V" } : Jvm.MethodName)) ∈ lw_all := lw_g (lw_at lw_m2 12 rfl) rfl
theorem q275 : (Jvm.Cond.privateMethod ({ cls := "GlobalTreeModel", name := "place", desc := "(II)V" } : Jvm.MethodName)) ∈ lw_tbl := lw_at lw_m2 13 rfl
theorem q276 : (Jvm.Cond.instanceMethod ({ cls := "GlobalTreeModel", name := "place", desc := "(II)V" } : Jvm.MethodName)) ∈ lw_all := lw_g (lw_at lw_m2 14 rfl) rfl
theorem q277 : (Jvm.Cond.code ({ cls := "GlobalTreeModel", name := "place", desc := "(II)V" } : Jvm.MethodName) prog_3_method_13_code (5 : Nat) (Option.none : Option Jvm.ClassFile.FieldType)) ∈ lw_all := lw_g (lw_at lw_m2 15 rfl) rfl
theorem q279 : (Jvm.Cond.instanceMethod ({ cls := "GlobalTreeModel", name := "data", desc := "()I" } : Jvm.MethodName)) ∈ lw_all := lw_g (lw_at lw_m2 17 rfl) rfl
theorem q280 : (Jvm.Cond.selects "GlobalTreeModel" ({ cls := "GlobalTreeModel", name := "data", desc := "()I" } : Jvm.MethodName) ({ cls := "GlobalTreeModel", name := "data", desc := "()I" } : Jvm.MethodName)) ∈ lw_all := lw_g (lw_at lw_m2 18 rfl) rfl
theorem q281 : (Jvm.Cond.code ({ cls := "GlobalTreeModel", name := "data", desc := "()I" } : Jvm.MethodName) prog_3_method_14_code (3 : Nat) (Option.some Jvm.ClassFile.FieldType.int)) ∈ lw_all := lw_g (lw_at lw_m2 19 rfl) rfl
theorem q284 : (Jvm.Cond.instanceMethod ({ cls := "GlobalTreeModel", name := "next", desc := "()I" } : Jvm.MethodName)) ∈ lw_all := lw_g (lw_at lw_m2 22 rfl) rfl
theorem q285 : (Jvm.Cond.selects "GlobalTreeModel" ({ cls := "GlobalTreeModel", name := "next", desc := "()I" } : Jvm.MethodName) ({ cls := "GlobalTreeModel", name := "next", desc := "()I" } : Jvm.MethodName)) ∈ lw_all := lw_g (lw_at lw_m2 23 rfl) rfl
theorem q286 : (Jvm.Cond.code ({ cls := "GlobalTreeModel", name := "next", desc := "()I" } : Jvm.MethodName) prog_3_method_17_code (1 : Nat) (Option.some Jvm.ClassFile.FieldType.int)) ∈ lw_all := lw_g (lw_at lw_m2 24 rfl) rfl
theorem q287 : (Jvm.Cond.methodLink "GlobalTreeModel" (56 : Nat) ({ cls := "GlobalTreeModel", name := "nearest", desc := "(III)I" } : Jvm.MethodName)) ∈ lw_all := lw_g (lw_at lw_m2 25 rfl) rfl
theorem q288 : (Jvm.Cond.privateMethod ({ cls := "GlobalTreeModel", name := "nearest", desc := "(III)I" } : Jvm.MethodName)) ∈ lw_tbl := lw_at lw_m2 26 rfl
theorem q289 : (Jvm.Cond.instanceMethod ({ cls := "GlobalTreeModel", name := "nearest", desc := "(III)I" } : Jvm.MethodName)) ∈ lw_all := lw_g (lw_at lw_m2 27 rfl) rfl
theorem q290 : (Jvm.Cond.code ({ cls := "GlobalTreeModel", name := "nearest", desc := "(III)I" } : Jvm.MethodName) prog_3_method_16_code (8 : Nat) (Option.some Jvm.ClassFile.FieldType.int)) ∈ lw_all := lw_g (lw_at lw_m2 28 rfl) rfl
theorem q292 : (Jvm.Cond.instanceMethod ({ cls := "GlobalTreeModel", name := "previous", desc := "()I" } : Jvm.MethodName)) ∈ lw_all := lw_g (lw_at lw_m2 30 rfl) rfl
theorem q293 : (Jvm.Cond.selects "GlobalTreeModel" ({ cls := "GlobalTreeModel", name := "previous", desc := "()I" } : Jvm.MethodName) ({ cls := "GlobalTreeModel", name := "previous", desc := "()I" } : Jvm.MethodName)) ∈ lw_all := lw_g (lw_at lw_m2 31 rfl) rfl
theorem q294 : (Jvm.Cond.code ({ cls := "GlobalTreeModel", name := "previous", desc := "()I" } : Jvm.MethodName) prog_3_method_18_code (1 : Nat) (Option.some Jvm.ClassFile.FieldType.int)) ∈ lw_all := lw_g (lw_at lw_m2 32 rfl) rfl
theorem q296 : (Jvm.Cond.instanceMethod ({ cls := "GlobalTreeModel", name := "first", desc := "()I" } : Jvm.MethodName)) ∈ lw_all := lw_g (lw_at lw_m2 34 rfl) rfl
theorem q297 : (Jvm.Cond.selects "GlobalTreeModel" ({ cls := "GlobalTreeModel", name := "first", desc := "()I" } : Jvm.MethodName) ({ cls := "GlobalTreeModel", name := "first", desc := "()I" } : Jvm.MethodName)) ∈ lw_all := lw_g (lw_at lw_m2 35 rfl) rfl
theorem q298 : (Jvm.Cond.code ({ cls := "GlobalTreeModel", name := "first", desc := "()I" } : Jvm.MethodName) prog_3_method_19_code (1 : Nat) (Option.some Jvm.ClassFile.FieldType.int)) ∈ lw_all := lw_g (lw_at lw_m2 36 rfl) rfl
theorem q300 : (Jvm.Cond.instanceMethod ({ cls := "GlobalTreeModel", name := "query", desc := "()I" } : Jvm.MethodName)) ∈ lw_all := lw_g (lw_at lw_m2 38 rfl) rfl
theorem q301 : (Jvm.Cond.selects "GlobalTreeModel" ({ cls := "GlobalTreeModel", name := "query", desc := "()I" } : Jvm.MethodName) ({ cls := "GlobalTreeModel", name := "query", desc := "()I" } : Jvm.MethodName)) ∈ lw_all := lw_g (lw_at lw_m2 39 rfl) rfl
theorem q302 : (Jvm.Cond.code ({ cls := "GlobalTreeModel", name := "query", desc := "()I" } : Jvm.MethodName) prog_3_method_22_code (3 : Nat) (Option.some Jvm.ClassFile.FieldType.int)) ∈ lw_all := lw_g (lw_at lw_m2 40 rfl) rfl
theorem q303 : (Jvm.Cond.methodLink "GlobalTreeModel" (59 : Nat) ({ cls := "GlobalTreeModel", name := "order", desc := "(I)I" } : Jvm.MethodName)) ∈ lw_all := lw_g (lw_at lw_m2 41 rfl) rfl
theorem q304 : (Jvm.Cond.privateMethod ({ cls := "GlobalTreeModel", name := "order", desc := "(I)I" } : Jvm.MethodName)) ∈ lw_tbl := lw_at lw_m2 42 rfl
theorem q305 : (Jvm.Cond.instanceMethod ({ cls := "GlobalTreeModel", name := "order", desc := "(I)I" } : Jvm.MethodName)) ∈ lw_all := lw_g (lw_at lw_m2 43 rfl) rfl
theorem q306 : (Jvm.Cond.code ({ cls := "GlobalTreeModel", name := "order", desc := "(I)I" } : Jvm.MethodName) prog_3_method_20_code (5 : Nat) (Option.some Jvm.ClassFile.FieldType.int)) ∈ lw_all := lw_g (lw_at lw_m2 44 rfl) rfl
theorem q307 : (Jvm.Cond.methodLink "GlobalTreeModel" (62 : Nat) ({ cls := "GlobalTreeModel", name := "earlier", desc := "(II)Z" } : Jvm.MethodName)) ∈ lw_all := lw_g (lw_at lw_m2 45 rfl) rfl
theorem q308 : (Jvm.Cond.privateMethod ({ cls := "GlobalTreeModel", name := "earlier", desc := "(II)Z" } : Jvm.MethodName)) ∈ lw_tbl := lw_at lw_m2 46 rfl
theorem q309 : (Jvm.Cond.instanceMethod ({ cls := "GlobalTreeModel", name := "earlier", desc := "(II)Z" } : Jvm.MethodName)) ∈ lw_all := lw_g (lw_at lw_m2 47 rfl) rfl
theorem q310 : (Jvm.Cond.code ({ cls := "GlobalTreeModel", name := "earlier", desc := "(II)Z" } : Jvm.MethodName) prog_3_method_21_code (6 : Nat) (Option.some Jvm.ClassFile.FieldType.boolean)) ∈ lw_all := lw_g (lw_at lw_m2 48 rfl) rfl
theorem q312 : (Jvm.Cond.instanceMethod ({ cls := "GlobalTreeModel", name := "before", desc := "()I" } : Jvm.MethodName)) ∈ lw_all := lw_g (lw_at lw_m2 50 rfl) rfl
theorem q313 : (Jvm.Cond.selects "GlobalTreeModel" ({ cls := "GlobalTreeModel", name := "before", desc := "()I" } : Jvm.MethodName) ({ cls := "GlobalTreeModel", name := "before", desc := "()I" } : Jvm.MethodName)) ∈ lw_all := lw_g (lw_at lw_m2 51 rfl) rfl
theorem q314 : (Jvm.Cond.code ({ cls := "GlobalTreeModel", name := "before", desc := "()I" } : Jvm.MethodName) prog_3_method_23_code (3 : Nat) (Option.some Jvm.ClassFile.FieldType.int)) ∈ lw_all := lw_g (lw_at lw_m2 52 rfl) rfl
theorem q316 : (Jvm.Cond.instanceMethod ({ cls := "GlobalTreeModel", name := "count", desc := "()I" } : Jvm.MethodName)) ∈ lw_all := lw_g (lw_at lw_m2 54 rfl) rfl
theorem q317 : (Jvm.Cond.selects "GlobalTreeModel" ({ cls := "GlobalTreeModel", name := "count", desc := "()I" } : Jvm.MethodName) ({ cls := "GlobalTreeModel", name := "count", desc := "()I" } : Jvm.MethodName)) ∈ lw_all := lw_g (lw_at lw_m2 55 rfl) rfl
theorem q318 : (Jvm.Cond.code ({ cls := "GlobalTreeModel", name := "count", desc := "()I" } : Jvm.MethodName) prog_3_method_24_code (1 : Nat) (Option.some Jvm.ClassFile.FieldType.int)) ∈ lw_all := lw_g (lw_at lw_m2 56 rfl) rfl
theorem in_X1 : ∀ w ∈ wsX10, w ∈ lw_all := lw_in wsX10 [212, 214, 216, 218, 220, 222] (by decide +kernel) (by decide +kernel)
end
section
set_option maxRecDepth 100000
/-! java/lang/Object -/
set_option maxRecDepth 100000
def RJ0 : String := "java/lang/Object"
abbrev cJ0_init : ByteArray := object_method_1_code
def yJ0_init : MethodName := ⟨RJ0, "<init>", "()V"⟩
theorem dJ0_init_0 : decode cJ0_init 0 = .ok (.return_, 1) := by decide +kernel
theorem q31 : (Jvm.Cond.instanceMethod ({ cls := "java/lang/Object", name := "<init>", desc := "()V" } : Jvm.MethodName)) ∈ lw_all := lw_g (lw_at lw_m1 9 rfl) rfl
theorem q32 : (Jvm.Cond.code ({ cls := "java/lang/Object", name := "<init>", desc := "()V" } : Jvm.MethodName) object_method_1_code (1 : Nat) (Option.none : Option Jvm.ClassFile.FieldType)) ∈ lw_all := lw_g (lw_at lw_m1 10 rfl) rfl
/-! the law's own entry -/
set_option maxRecDepth 100000
abbrev cL_law : ByteArray := code
theorem dL_law_0 : decode cL_law 0 = .ok (.new 7, 3) := by decide +kernel
theorem dL_law_3 : decode cL_law 3 = .ok (.dup, 1) := by decide +kernel
theorem dL_law_4 : decode cL_law 4 = .ok (.invokespecial 9, 3) := by decide +kernel
theorem dL_law_7 : decode cL_law 7 = .ok (.astore_n 1, 1) := by decide +kernel
theorem dL_law_8 : decode cL_law 8 = .ok (.new 10, 3) := by decide +kernel
theorem dL_law_11 : decode cL_law 11 = .ok (.dup, 1) := by decide +kernel
theorem dL_law_12 : decode cL_law 12 = .ok (.invokespecial 12, 3) := by decide +kernel
theorem dL_law_15 : decode cL_law 15 = .ok (.astore_n 2, 1) := by decide +kernel
theorem dL_law_16 : decode cL_law 16 = .ok (.iconst 0, 1) := by decide +kernel
theorem dL_law_17 : decode cL_law 17 = .ok (.istore_n 3, 1) := by decide +kernel
theorem dL_law_18 : decode cL_law 18 = .ok (.iload_n 3, 1) := by decide +kernel
theorem dL_law_19 : decode cL_law 19 = .ok (.aload_n 0, 1) := by decide +kernel
theorem dL_law_20 : decode cL_law 20 = .ok (.arraylength, 1) := by decide +kernel
theorem dL_law_21 : decode cL_law 21 = .ok (.iconst 2, 1) := by decide +kernel
theorem dL_law_22 : decode cL_law 22 = .ok (.isub, 1) := by decide +kernel
theorem dL_law_23 : decode cL_law 23 = .ok (.if_icmp .gt 336, 3) := by decide +kernel
theorem dL_law_26 : decode cL_law 26 = .ok (.aload_n 0, 1) := by decide +kernel
theorem dL_law_27 : decode cL_law 27 = .ok (.iload_n 3, 1) := by decide +kernel
theorem dL_law_28 : decode cL_law 28 = .ok (.iaload, 1) := by decide +kernel
theorem dL_law_29 : decode cL_law 29 = .ok (.bipush 15, 2) := by decide +kernel
theorem dL_law_31 : decode cL_law 31 = .ok (.iand, 1) := by decide +kernel
theorem dL_law_32 : decode cL_law 32 = .ok (.tableswitch 321 0 14 #[76, 99, 112, 135, 158, 181, 194, 217, 230, 243, 256, 269, 282, 295, 308], 76) := by decide +kernel
theorem dL_law_108 : decode cL_law 108 = .ok (.aload_n 1, 1) := by decide +kernel
theorem dL_law_109 : decode cL_law 109 = .ok (.aload_n 0, 1) := by decide +kernel
theorem dL_law_110 : decode cL_law 110 = .ok (.iload_n 3, 1) := by decide +kernel
theorem dL_law_111 : decode cL_law 111 = .ok (.iconst 1, 1) := by decide +kernel
theorem dL_law_112 : decode cL_law 112 = .ok (.iadd, 1) := by decide +kernel
theorem dL_law_113 : decode cL_law 113 = .ok (.iaload, 1) := by decide +kernel
theorem dL_law_114 : decode cL_law 114 = .ok (.invokevirtual 13, 3) := by decide +kernel
theorem dL_law_117 : decode cL_law 117 = .ok (.aload_n 2, 1) := by decide +kernel
theorem dL_law_118 : decode cL_law 118 = .ok (.aload_n 0, 1) := by decide +kernel
theorem dL_law_119 : decode cL_law 119 = .ok (.iload_n 3, 1) := by decide +kernel
theorem dL_law_120 : decode cL_law 120 = .ok (.iconst 1, 1) := by decide +kernel
theorem dL_law_121 : decode cL_law 121 = .ok (.iadd, 1) := by decide +kernel
theorem dL_law_122 : decode cL_law 122 = .ok (.iaload, 1) := by decide +kernel
theorem dL_law_123 : decode cL_law 123 = .ok (.invokevirtual 17, 3) := by decide +kernel
theorem dL_law_126 : decode cL_law 126 = .ok (.if_icmp .eq 227, 3) := by decide +kernel
theorem dL_law_129 : decode cL_law 129 = .ok (.iconst 0, 1) := by decide +kernel
theorem dL_law_130 : decode cL_law 130 = .ok (.ireturn, 1) := by decide +kernel
theorem dL_law_131 : decode cL_law 131 = .ok (.aload_n 1, 1) := by decide +kernel
theorem dL_law_132 : decode cL_law 132 = .ok (.invokevirtual 18, 3) := by decide +kernel
theorem dL_law_135 : decode cL_law 135 = .ok (.aload_n 2, 1) := by decide +kernel
theorem dL_law_136 : decode cL_law 136 = .ok (.invokevirtual 22, 3) := by decide +kernel
theorem dL_law_139 : decode cL_law 139 = .ok (.if_icmp .eq 214, 3) := by decide +kernel
theorem dL_law_142 : decode cL_law 142 = .ok (.iconst 0, 1) := by decide +kernel
theorem dL_law_143 : decode cL_law 143 = .ok (.ireturn, 1) := by decide +kernel
theorem dL_law_144 : decode cL_law 144 = .ok (.aload_n 1, 1) := by decide +kernel
theorem dL_law_145 : decode cL_law 145 = .ok (.aload_n 0, 1) := by decide +kernel
theorem dL_law_146 : decode cL_law 146 = .ok (.iload_n 3, 1) := by decide +kernel
theorem dL_law_147 : decode cL_law 147 = .ok (.iconst 1, 1) := by decide +kernel
theorem dL_law_148 : decode cL_law 148 = .ok (.iadd, 1) := by decide +kernel
theorem dL_law_149 : decode cL_law 149 = .ok (.iaload, 1) := by decide +kernel
theorem dL_law_150 : decode cL_law 150 = .ok (.invokevirtual 23, 3) := by decide +kernel
theorem dL_law_153 : decode cL_law 153 = .ok (.aload_n 2, 1) := by decide +kernel
theorem dL_law_154 : decode cL_law 154 = .ok (.aload_n 0, 1) := by decide +kernel
theorem dL_law_155 : decode cL_law 155 = .ok (.iload_n 3, 1) := by decide +kernel
theorem dL_law_156 : decode cL_law 156 = .ok (.iconst 1, 1) := by decide +kernel
theorem dL_law_157 : decode cL_law 157 = .ok (.iadd, 1) := by decide +kernel
theorem dL_law_158 : decode cL_law 158 = .ok (.iaload, 1) := by decide +kernel
theorem dL_law_159 : decode cL_law 159 = .ok (.invokevirtual 26, 3) := by decide +kernel
theorem dL_law_162 : decode cL_law 162 = .ok (.if_icmp .eq 191, 3) := by decide +kernel
theorem dL_law_165 : decode cL_law 165 = .ok (.iconst 0, 1) := by decide +kernel
theorem dL_law_166 : decode cL_law 166 = .ok (.ireturn, 1) := by decide +kernel
theorem dL_law_167 : decode cL_law 167 = .ok (.aload_n 1, 1) := by decide +kernel
theorem dL_law_168 : decode cL_law 168 = .ok (.aload_n 0, 1) := by decide +kernel
theorem dL_law_169 : decode cL_law 169 = .ok (.iload_n 3, 1) := by decide +kernel
theorem dL_law_170 : decode cL_law 170 = .ok (.iconst 1, 1) := by decide +kernel
theorem dL_law_171 : decode cL_law 171 = .ok (.iadd, 1) := by decide +kernel
theorem dL_law_172 : decode cL_law 172 = .ok (.iaload, 1) := by decide +kernel
theorem dL_law_173 : decode cL_law 173 = .ok (.invokevirtual 27, 3) := by decide +kernel
theorem dL_law_176 : decode cL_law 176 = .ok (.aload_n 2, 1) := by decide +kernel
theorem dL_law_177 : decode cL_law 177 = .ok (.aload_n 0, 1) := by decide +kernel
theorem dL_law_178 : decode cL_law 178 = .ok (.iload_n 3, 1) := by decide +kernel
theorem dL_law_179 : decode cL_law 179 = .ok (.iconst 1, 1) := by decide +kernel
theorem dL_law_180 : decode cL_law 180 = .ok (.iadd, 1) := by decide +kernel
theorem dL_law_181 : decode cL_law 181 = .ok (.iaload, 1) := by decide +kernel
theorem dL_law_182 : decode cL_law 182 = .ok (.invokevirtual 30, 3) := by decide +kernel
theorem dL_law_185 : decode cL_law 185 = .ok (.if_icmp .eq 168, 3) := by decide +kernel
theorem dL_law_188 : decode cL_law 188 = .ok (.iconst 0, 1) := by decide +kernel
theorem dL_law_189 : decode cL_law 189 = .ok (.ireturn, 1) := by decide +kernel
theorem dL_law_190 : decode cL_law 190 = .ok (.aload_n 1, 1) := by decide +kernel
theorem dL_law_191 : decode cL_law 191 = .ok (.aload_n 0, 1) := by decide +kernel
theorem dL_law_192 : decode cL_law 192 = .ok (.iload_n 3, 1) := by decide +kernel
theorem dL_law_193 : decode cL_law 193 = .ok (.iconst 1, 1) := by decide +kernel
theorem dL_law_194 : decode cL_law 194 = .ok (.iadd, 1) := by decide +kernel
theorem dL_law_195 : decode cL_law 195 = .ok (.iaload, 1) := by decide +kernel
theorem dL_law_196 : decode cL_law 196 = .ok (.invokevirtual 31, 3) := by decide +kernel
theorem dL_law_199 : decode cL_law 199 = .ok (.aload_n 2, 1) := by decide +kernel
theorem dL_law_200 : decode cL_law 200 = .ok (.aload_n 0, 1) := by decide +kernel
theorem dL_law_201 : decode cL_law 201 = .ok (.iload_n 3, 1) := by decide +kernel
theorem dL_law_202 : decode cL_law 202 = .ok (.iconst 1, 1) := by decide +kernel
theorem dL_law_203 : decode cL_law 203 = .ok (.iadd, 1) := by decide +kernel
theorem dL_law_204 : decode cL_law 204 = .ok (.iaload, 1) := by decide +kernel
theorem dL_law_205 : decode cL_law 205 = .ok (.invokevirtual 34, 3) := by decide +kernel
theorem dL_law_208 : decode cL_law 208 = .ok (.if_icmp .eq 145, 3) := by decide +kernel
theorem dL_law_211 : decode cL_law 211 = .ok (.iconst 0, 1) := by decide +kernel
theorem dL_law_212 : decode cL_law 212 = .ok (.ireturn, 1) := by decide +kernel
theorem dL_law_213 : decode cL_law 213 = .ok (.aload_n 1, 1) := by decide +kernel
theorem dL_law_214 : decode cL_law 214 = .ok (.invokevirtual 35, 3) := by decide +kernel
theorem dL_law_217 : decode cL_law 217 = .ok (.aload_n 2, 1) := by decide +kernel
theorem dL_law_218 : decode cL_law 218 = .ok (.invokevirtual 38, 3) := by decide +kernel
theorem dL_law_221 : decode cL_law 221 = .ok (.if_icmp .eq 132, 3) := by decide +kernel
theorem dL_law_224 : decode cL_law 224 = .ok (.iconst 0, 1) := by decide +kernel
theorem dL_law_225 : decode cL_law 225 = .ok (.ireturn, 1) := by decide +kernel
theorem dL_law_226 : decode cL_law 226 = .ok (.aload_n 1, 1) := by decide +kernel
theorem dL_law_227 : decode cL_law 227 = .ok (.aload_n 0, 1) := by decide +kernel
theorem dL_law_228 : decode cL_law 228 = .ok (.iload_n 3, 1) := by decide +kernel
theorem dL_law_229 : decode cL_law 229 = .ok (.iconst 1, 1) := by decide +kernel
theorem dL_law_230 : decode cL_law 230 = .ok (.iadd, 1) := by decide +kernel
theorem dL_law_231 : decode cL_law 231 = .ok (.iaload, 1) := by decide +kernel
theorem dL_law_232 : decode cL_law 232 = .ok (.invokevirtual 39, 3) := by decide +kernel
theorem dL_law_235 : decode cL_law 235 = .ok (.aload_n 2, 1) := by decide +kernel
theorem dL_law_236 : decode cL_law 236 = .ok (.aload_n 0, 1) := by decide +kernel
theorem dL_law_237 : decode cL_law 237 = .ok (.iload_n 3, 1) := by decide +kernel
theorem dL_law_238 : decode cL_law 238 = .ok (.iconst 1, 1) := by decide +kernel
theorem dL_law_239 : decode cL_law 239 = .ok (.iadd, 1) := by decide +kernel
theorem dL_law_240 : decode cL_law 240 = .ok (.iaload, 1) := by decide +kernel
theorem dL_law_241 : decode cL_law 241 = .ok (.invokevirtual 42, 3) := by decide +kernel
theorem dL_law_244 : decode cL_law 244 = .ok (.if_icmp .eq 109, 3) := by decide +kernel
theorem dL_law_247 : decode cL_law 247 = .ok (.iconst 0, 1) := by decide +kernel
theorem dL_law_248 : decode cL_law 248 = .ok (.ireturn, 1) := by decide +kernel
theorem dL_law_249 : decode cL_law 249 = .ok (.aload_n 1, 1) := by decide +kernel
theorem dL_law_250 : decode cL_law 250 = .ok (.invokevirtual 43, 3) := by decide +kernel
theorem dL_law_253 : decode cL_law 253 = .ok (.aload_n 2, 1) := by decide +kernel
theorem dL_law_254 : decode cL_law 254 = .ok (.invokevirtual 46, 3) := by decide +kernel
theorem dL_law_257 : decode cL_law 257 = .ok (.if_icmp .eq 96, 3) := by decide +kernel
theorem dL_law_260 : decode cL_law 260 = .ok (.iconst 0, 1) := by decide +kernel
theorem dL_law_261 : decode cL_law 261 = .ok (.ireturn, 1) := by decide +kernel
theorem dL_law_262 : decode cL_law 262 = .ok (.aload_n 1, 1) := by decide +kernel
theorem dL_law_263 : decode cL_law 263 = .ok (.invokevirtual 47, 3) := by decide +kernel
theorem dL_law_266 : decode cL_law 266 = .ok (.aload_n 2, 1) := by decide +kernel
theorem dL_law_267 : decode cL_law 267 = .ok (.invokevirtual 50, 3) := by decide +kernel
theorem dL_law_270 : decode cL_law 270 = .ok (.if_icmp .eq 83, 3) := by decide +kernel
theorem dL_law_273 : decode cL_law 273 = .ok (.iconst 0, 1) := by decide +kernel
theorem dL_law_274 : decode cL_law 274 = .ok (.ireturn, 1) := by decide +kernel
theorem dL_law_275 : decode cL_law 275 = .ok (.aload_n 1, 1) := by decide +kernel
theorem dL_law_276 : decode cL_law 276 = .ok (.invokevirtual 51, 3) := by decide +kernel
theorem dL_law_279 : decode cL_law 279 = .ok (.aload_n 2, 1) := by decide +kernel
theorem dL_law_280 : decode cL_law 280 = .ok (.invokevirtual 54, 3) := by decide +kernel
theorem dL_law_283 : decode cL_law 283 = .ok (.if_icmp .eq 70, 3) := by decide +kernel
theorem dL_law_286 : decode cL_law 286 = .ok (.iconst 0, 1) := by decide +kernel
theorem dL_law_287 : decode cL_law 287 = .ok (.ireturn, 1) := by decide +kernel
theorem dL_law_288 : decode cL_law 288 = .ok (.aload_n 1, 1) := by decide +kernel
theorem dL_law_289 : decode cL_law 289 = .ok (.invokevirtual 55, 3) := by decide +kernel
theorem dL_law_292 : decode cL_law 292 = .ok (.aload_n 2, 1) := by decide +kernel
theorem dL_law_293 : decode cL_law 293 = .ok (.invokevirtual 58, 3) := by decide +kernel
theorem dL_law_296 : decode cL_law 296 = .ok (.if_icmp .eq 57, 3) := by decide +kernel
theorem dL_law_299 : decode cL_law 299 = .ok (.iconst 0, 1) := by decide +kernel
theorem dL_law_300 : decode cL_law 300 = .ok (.ireturn, 1) := by decide +kernel
theorem dL_law_301 : decode cL_law 301 = .ok (.aload_n 1, 1) := by decide +kernel
theorem dL_law_302 : decode cL_law 302 = .ok (.invokevirtual 59, 3) := by decide +kernel
theorem dL_law_305 : decode cL_law 305 = .ok (.aload_n 2, 1) := by decide +kernel
theorem dL_law_306 : decode cL_law 306 = .ok (.invokevirtual 62, 3) := by decide +kernel
theorem dL_law_309 : decode cL_law 309 = .ok (.if_icmp .eq 44, 3) := by decide +kernel
theorem dL_law_312 : decode cL_law 312 = .ok (.iconst 0, 1) := by decide +kernel
theorem dL_law_313 : decode cL_law 313 = .ok (.ireturn, 1) := by decide +kernel
theorem dL_law_314 : decode cL_law 314 = .ok (.aload_n 1, 1) := by decide +kernel
theorem dL_law_315 : decode cL_law 315 = .ok (.invokevirtual 63, 3) := by decide +kernel
theorem dL_law_318 : decode cL_law 318 = .ok (.aload_n 2, 1) := by decide +kernel
theorem dL_law_319 : decode cL_law 319 = .ok (.invokevirtual 66, 3) := by decide +kernel
theorem dL_law_322 : decode cL_law 322 = .ok (.if_icmp .eq 31, 3) := by decide +kernel
theorem dL_law_325 : decode cL_law 325 = .ok (.iconst 0, 1) := by decide +kernel
theorem dL_law_326 : decode cL_law 326 = .ok (.ireturn, 1) := by decide +kernel
theorem dL_law_327 : decode cL_law 327 = .ok (.aload_n 1, 1) := by decide +kernel
theorem dL_law_328 : decode cL_law 328 = .ok (.invokevirtual 67, 3) := by decide +kernel
theorem dL_law_331 : decode cL_law 331 = .ok (.aload_n 2, 1) := by decide +kernel
theorem dL_law_332 : decode cL_law 332 = .ok (.invokevirtual 70, 3) := by decide +kernel
theorem dL_law_335 : decode cL_law 335 = .ok (.if_icmp .eq 18, 3) := by decide +kernel
theorem dL_law_338 : decode cL_law 338 = .ok (.iconst 0, 1) := by decide +kernel
theorem dL_law_339 : decode cL_law 339 = .ok (.ireturn, 1) := by decide +kernel
theorem dL_law_340 : decode cL_law 340 = .ok (.aload_n 1, 1) := by decide +kernel
theorem dL_law_341 : decode cL_law 341 = .ok (.invokevirtual 71, 3) := by decide +kernel
theorem dL_law_344 : decode cL_law 344 = .ok (.aload_n 2, 1) := by decide +kernel
theorem dL_law_345 : decode cL_law 345 = .ok (.invokevirtual 74, 3) := by decide +kernel
theorem dL_law_348 : decode cL_law 348 = .ok (.if_icmp .eq 5, 3) := by decide +kernel
theorem dL_law_351 : decode cL_law 351 = .ok (.iconst 0, 1) := by decide +kernel
theorem dL_law_352 : decode cL_law 352 = .ok (.ireturn, 1) := by decide +kernel
theorem dL_law_353 : decode cL_law 353 = .ok (.iinc 3 2, 3) := by decide +kernel
theorem dL_law_356 : decode cL_law 356 = .ok (.goto (-338), 3) := by decide +kernel
theorem dL_law_359 : decode cL_law 359 = .ok (.iconst 1, 1) := by decide +kernel
theorem dL_law_360 : decode cL_law 360 = .ok (.ireturn, 1) := by decide +kernel

theorem q22 : (Jvm.Cond.initialized "GlobalTreeLaw") ∈ lw_all := lw_g (lw_at lw_m1 0 rfl) rfl
set_option maxRecDepth 100000
theorem q25 : (Jvm.Cond.classLink "GlobalTreeLaw" (7 : Nat) "GlobalTree") ∈ lw_all := lw_g (lw_at lw_m1 3 rfl) rfl
theorem q27 : (Jvm.Cond.methodLink "GlobalTreeLaw" (9 : Nat) ({ cls := "GlobalTree", name := "<init>", desc := "()V" } : Jvm.MethodName)) ∈ lw_all := lw_g (lw_at lw_m1 5 rfl) rfl
theorem q74 : (Jvm.Cond.methodLink "GlobalTreeLaw" (13 : Nat) ({ cls := "GlobalTree", name := "down", desc := "(I)I" } : Jvm.MethodName)) ∈ lw_all := lw_g (lw_at lw_m1 52 rfl) rfl
theorem q81 : (Jvm.Cond.methodLink "GlobalTreeLaw" (18 : Nat) ({ cls := "GlobalTree", name := "up", desc := "()I" } : Jvm.MethodName)) ∈ lw_all := lw_g (lw_at lw_m1 59 rfl) rfl
theorem q85 : (Jvm.Cond.methodLink "GlobalTreeLaw" (23 : Nat) ({ cls := "GlobalTree", name := "turn", desc := "(I)I" } : Jvm.MethodName)) ∈ lw_all := lw_g (lw_at lw_m1 63 rfl) rfl
theorem q89 : (Jvm.Cond.methodLink "GlobalTreeLaw" (27 : Nat) ({ cls := "GlobalTree", name := "set", desc := "(I)I" } : Jvm.MethodName)) ∈ lw_all := lw_g (lw_at lw_m1 67 rfl) rfl
theorem q137 : (Jvm.Cond.methodLink "GlobalTreeLaw" (31 : Nat) ({ cls := "GlobalTree", name := "increment", desc := "(I)I" } : Jvm.MethodName)) ∈ lw_all := lw_g (lw_at lw_m1 115 rfl) rfl
theorem q141 : (Jvm.Cond.methodLink "GlobalTreeLaw" (35 : Nat) ({ cls := "GlobalTree", name := "kill", desc := "()I" } : Jvm.MethodName)) ∈ lw_all := lw_g (lw_at lw_m1 119 rfl) rfl
theorem q153 : (Jvm.Cond.methodLink "GlobalTreeLaw" (39 : Nat) ({ cls := "GlobalTree", name := "merge", desc := "(I)I" } : Jvm.MethodName)) ∈ lw_all := lw_g (lw_at lw_m1 131 rfl) rfl
theorem q157 : (Jvm.Cond.methodLink "GlobalTreeLaw" (43 : Nat) ({ cls := "GlobalTree", name := "data", desc := "()I" } : Jvm.MethodName)) ∈ lw_all := lw_g (lw_at lw_m1 135 rfl) rfl
theorem q165 : (Jvm.Cond.methodLink "GlobalTreeLaw" (47 : Nat) ({ cls := "GlobalTree", name := "value", desc := "()I" } : Jvm.MethodName)) ∈ lw_all := lw_g (lw_at lw_m1 143 rfl) rfl
theorem q169 : (Jvm.Cond.methodLink "GlobalTreeLaw" (51 : Nat) ({ cls := "GlobalTree", name := "next", desc := "()I" } : Jvm.MethodName)) ∈ lw_all := lw_g (lw_at lw_m1 147 rfl) rfl
theorem q176 : (Jvm.Cond.methodLink "GlobalTreeLaw" (55 : Nat) ({ cls := "GlobalTree", name := "previous", desc := "()I" } : Jvm.MethodName)) ∈ lw_all := lw_g (lw_at lw_m1 154 rfl) rfl
theorem q184 : (Jvm.Cond.methodLink "GlobalTreeLaw" (59 : Nat) ({ cls := "GlobalTree", name := "first", desc := "()I" } : Jvm.MethodName)) ∈ lw_all := lw_g (lw_at lw_m1 162 rfl) rfl
theorem q188 : (Jvm.Cond.methodLink "GlobalTreeLaw" (63 : Nat) ({ cls := "GlobalTree", name := "query", desc := "()I" } : Jvm.MethodName)) ∈ lw_all := lw_g (lw_at lw_m1 166 rfl) rfl
theorem q192 : (Jvm.Cond.methodLink "GlobalTreeLaw" (67 : Nat) ({ cls := "GlobalTree", name := "before", desc := "()I" } : Jvm.MethodName)) ∈ lw_all := lw_g (lw_at lw_m1 170 rfl) rfl
theorem q196 : (Jvm.Cond.methodLink "GlobalTreeLaw" (71 : Nat) ({ cls := "GlobalTree", name := "count", desc := "()I" } : Jvm.MethodName)) ∈ lw_all := lw_g (lw_at lw_m1 174 rfl) rfl
theorem q200 : (Jvm.Cond.classLink "GlobalTreeLaw" (10 : Nat) "GlobalTreeModel") ∈ lw_all := lw_g (lw_at lw_m1 178 rfl) rfl
theorem q202 : (Jvm.Cond.methodLink "GlobalTreeLaw" (12 : Nat) ({ cls := "GlobalTreeModel", name := "<init>", desc := "()V" } : Jvm.MethodName)) ∈ lw_all := lw_g (lw_at lw_m1 180 rfl) rfl
theorem q225 : (Jvm.Cond.methodLink "GlobalTreeLaw" (17 : Nat) ({ cls := "GlobalTreeModel", name := "down", desc := "(I)I" } : Jvm.MethodName)) ∈ lw_all := lw_g (lw_at lw_m1 203 rfl) rfl
theorem q233 : (Jvm.Cond.methodLink "GlobalTreeLaw" (22 : Nat) ({ cls := "GlobalTreeModel", name := "up", desc := "()I" } : Jvm.MethodName)) ∈ lw_all := lw_g (lw_at lw_m1 211 rfl) rfl
theorem q237 : (Jvm.Cond.methodLink "GlobalTreeLaw" (26 : Nat) ({ cls := "GlobalTreeModel", name := "turn", desc := "(I)I" } : Jvm.MethodName)) ∈ lw_all := lw_g (lw_at lw_m1 215 rfl) rfl
theorem q241 : (Jvm.Cond.methodLink "GlobalTreeLaw" (30 : Nat) ({ cls := "GlobalTreeModel", name := "set", desc := "(I)I" } : Jvm.MethodName)) ∈ lw_all := lw_g (lw_at lw_m1 219 rfl) rfl
theorem q253 : (Jvm.Cond.methodLink "GlobalTreeLaw" (34 : Nat) ({ cls := "GlobalTreeModel", name := "increment", desc := "(I)I" } : Jvm.MethodName)) ∈ lw_all := lw_g (lw_at lw_m1 231 rfl) rfl
theorem q262 : (Jvm.Cond.methodLink "GlobalTreeLaw" (38 : Nat) ({ cls := "GlobalTreeModel", name := "kill", desc := "()I" } : Jvm.MethodName)) ∈ lw_all := lw_g (lw_at lw_m2 0 rfl) rfl
theorem q266 : (Jvm.Cond.methodLink "GlobalTreeLaw" (42 : Nat) ({ cls := "GlobalTreeModel", name := "merge", desc := "(I)I" } : Jvm.MethodName)) ∈ lw_all := lw_g (lw_at lw_m2 4 rfl) rfl
theorem q278 : (Jvm.Cond.methodLink "GlobalTreeLaw" (46 : Nat) ({ cls := "GlobalTreeModel", name := "data", desc := "()I" } : Jvm.MethodName)) ∈ lw_all := lw_g (lw_at lw_m2 16 rfl) rfl
theorem q282 : (Jvm.Cond.methodLink "GlobalTreeLaw" (50 : Nat) ({ cls := "GlobalTreeModel", name := "value", desc := "()I" } : Jvm.MethodName)) ∈ lw_all := lw_g (lw_at lw_m2 20 rfl) rfl
theorem q283 : (Jvm.Cond.methodLink "GlobalTreeLaw" (54 : Nat) ({ cls := "GlobalTreeModel", name := "next", desc := "()I" } : Jvm.MethodName)) ∈ lw_all := lw_g (lw_at lw_m2 21 rfl) rfl
theorem q291 : (Jvm.Cond.methodLink "GlobalTreeLaw" (58 : Nat) ({ cls := "GlobalTreeModel", name := "previous", desc := "()I" } : Jvm.MethodName)) ∈ lw_all := lw_g (lw_at lw_m2 29 rfl) rfl
theorem q295 : (Jvm.Cond.methodLink "GlobalTreeLaw" (62 : Nat) ({ cls := "GlobalTreeModel", name := "first", desc := "()I" } : Jvm.MethodName)) ∈ lw_all := lw_g (lw_at lw_m2 33 rfl) rfl
theorem q299 : (Jvm.Cond.methodLink "GlobalTreeLaw" (66 : Nat) ({ cls := "GlobalTreeModel", name := "query", desc := "()I" } : Jvm.MethodName)) ∈ lw_all := lw_g (lw_at lw_m2 37 rfl) rfl
theorem q311 : (Jvm.Cond.methodLink "GlobalTreeLaw" (70 : Nat) ({ cls := "GlobalTreeModel", name := "before", desc := "()I" } : Jvm.MethodName)) ∈ lw_all := lw_g (lw_at lw_m2 49 rfl) rfl
theorem q315 : (Jvm.Cond.methodLink "GlobalTreeLaw" (74 : Nat) ({ cls := "GlobalTreeModel", name := "count", desc := "()I" } : Jvm.MethodName)) ∈ lw_all := lw_g (lw_at lw_m2 53 rfl) rfl
theorem q73 : (Jvm.Cond.arrayClass Jvm.ClassFile.FieldType.int) ∈ lw_all := lw_g (lw_at lw_m1 51 rfl) rfl
set_option maxRecDepth 100000
end
section
/-! THE FRAME OF ALL WALKS: a method's context, its world, its contract; entry; calls -/
abbrev vwCl : List vw_C := [(RX0, TX0, 13), (RX1, TX1, 6)]
/-- room: so many frames, so many words of locals; nothing new is made -/
def gRm (f n : Nat) : Room := { frames := f, cells := 0, slots := 0, locals := n }
/-- a method's context, all through its walk -/
def gCx (own : String) (cc : ByteArray) (nL : Nat) (rt : Option FieldType) (D : va_G) (d : ClassId) (A : Nat → Prop) (p : Program) (s : State) (m : MethodId) (args : Array Value) (meth : Method) (c : Code) : Prop :=
  CallFix p m c cc nL s args lw_all own ∧ va_K D vwCl [(d, .int)] s ∧ meth.sig.returnType = rt ∧ meth.locks = false ∧ (∀ q, s.heap.size ≤ q → A q)
/-- the world: its cells, apart, in A; outside A nothing has changed -/
def gSt (D : va_G) (A : Nat → Prop) (s : State) (ws : va_W) (H : Heap) (locs : List Loc) : Prop :=
  va_P D vwCl ws H ∧ va_D A ws ∧ va_S A s.heap H locs
def gPre (D : va_G) (d : ClassId) (w0 : va_W) (sz : Nat) (U : State) : Prop := U.heap.size = sz ∧ va_P D vwCl w0 U.heap ∧ va_K D vwCl [(d, .int)] U ∧ va_D (fun _ => True) w0
def gPost (D : va_G) (d : ClassId) (w0 : va_W) (sz : Nat) (w1 : va_W) (t : State) : Prop := va_P D vwCl w1 t.heap ∧ va_K D vwCl [(d, .int)] t ∧ va_D (va_A w0 sz) w1
/-- contract of a method with an int (or boolean) answer -/
def CTi (l : Launch) (y : MethodName) (cc : ByteArray) (nL : Nat) (rt : Option FieldType) (rm : Room) (D : va_G) (d : ClassId) (As : List Value) (w0 : va_W) {S : Type} (post : Int32 → S → Prop) (wf : S → va_W) : Prop :=
  ∀ sz : Nat, Met l y (ws_ y cc nL rt) rm (va_Pc As (gPre D d w0 sz)) (va_Qi post (fun u t => gPost D d w0 sz (wf u) t) (va_A w0 sz)) 0 0 (va_A w0 sz)
/-- contract of a void method -/
def CTv (l : Launch) (y : MethodName) (cc : ByteArray) (nL : Nat) (rm : Room) (D : va_G) (d : ClassId) (As : List Value) (w0 : va_W) {S : Type} (post : S → Prop) (wf : S → va_W) : Prop :=
  ∀ sz : Nat, Met l y (ws_ y cc nL none) rm (va_Pc As (gPre D d w0 sz)) (va_Qv post (fun u t => gPost D d w0 sz (wf u) t) (va_A w0 sz)) 0 0 (va_A w0 sz)
set_option maxHeartbeats 4000000 in
theorem gEnter_i {l : Launch} {y : MethodName} {cc : ByteArray} {nL : Nat} {ty : FieldType} {f n : Nat} {D : va_G} {d : ClassId} {As : List Value} {w0 : va_W} {S : Type} {post : Int32 → S → Prop} {wf : S → va_W} (hy : plainName y.cls = true) (hlen : (lg_sl As).length ≤ nL)
    (body : ∀ (p : Program) (e : Env) (s : State) (m : MethodId) (args : Array Value) (below : List Frame) (meth : Method) (c : Code) (A : Nat → Prop) (Q : State → Prop) (ls : Array Slot), gCx y.cls cc nL (some ty) D d A p s m args meth c →
      (∀ (r : Int32) (u : S) (H : Heap) (locs : List Loc) (ls : Array Slot) (pc : Nat), post r u → narrow ty (.int r) = .int r → gSt D A s (wf u) H locs → decode cc pc = .ok (.ireturn, 1) → W p l e (gRm f n) s m args below meth c H locs 0 0 Q (F0 m pc ls [.int r])) →
      lv_has ls nL (lv_args 0 As) → gSt D A s w0 s.heap [] → W p l e (gRm f n) s m args below meth c s.heap [] 0 0 Q (F0 m 0 ls [])) : CTi l y cc nL (some ty) (gRm f n) D d As w0 post wf := by
  intro sz
  refine Met.ofW (cc := cc) (maxL := nL) (ret := some ty) hy rfl ?_
  intro p e s m args below meth c s₁ B hml hv
  obtain ⟨rfl, hsz, hP, hK, hD0⟩ := hv
  have hts := atoms_spec (ws := ws_ y cc nL (some ty)) B.pre
  have hts : ∀ w ∈ lw_all, w.before _ s = true := fun w h => hts w (List.mem_cons_of_mem _ h)
  have hown : s.vm.findClass y.cls = some m.cls := findClass_of_methodNamed B.named
  have hlocks := B.notSynchronized
  subst hsz
  have hl := lv_entry As (n := nL) hlen
  rw [lg_entry_eq]
  refine body p e s m _ below meth c (va_A w0 s.heap.size) _ _ ⟨⟨B.exec, B.bytes, hml, hown, hts⟩, hK, B.returns, hlocks, fun q h => Or.inr h⟩ ?_ hl ⟨hP, hD0.self, va_S.rf⟩
  intro r u H locs ls pc hp hn hw hdg
  exact W.zret (v := r) B.exec B.bytes B.returns hn (fun t ht hW => ⟨⟨r, u, rfl, hp, by rw [ht]; exact hw.1, va_K.moved hW.alike hK, hw.2.1⟩, hw.2.2.F ht⟩) hw.2.2.2.2 hdg
set_option maxHeartbeats 4000000 in
theorem gEnter_v {l : Launch} {y : MethodName} {cc : ByteArray} {nL : Nat} {f n : Nat} {D : va_G} {d : ClassId} {As : List Value} {w0 : va_W} {S : Type} {post : S → Prop} {wf : S → va_W} (hy : plainName y.cls = true) (hlen : (lg_sl As).length ≤ nL)
    (body : ∀ (p : Program) (e : Env) (s : State) (m : MethodId) (args : Array Value) (below : List Frame) (meth : Method) (c : Code) (A : Nat → Prop) (Q : State → Prop) (ls : Array Slot), gCx y.cls cc nL none D d A p s m args meth c →
      (∀ (u : S) (H : Heap) (locs : List Loc) (ls : Array Slot) (pc : Nat), post u → gSt D A s (wf u) H locs → decode cc pc = .ok (.return_, 1) → W p l e (gRm f n) s m args below meth c H locs 0 0 Q (F0 m pc ls [])) →
      lv_has ls nL (lv_args 0 As) → gSt D A s w0 s.heap [] → W p l e (gRm f n) s m args below meth c s.heap [] 0 0 Q (F0 m 0 ls [])) : CTv l y cc nL (gRm f n) D d As w0 post wf := by
  intro sz
  refine Met.ofW (cc := cc) (maxL := nL) (ret := none) hy rfl ?_
  intro p e s m args below meth c s₁ B hml hv
  obtain ⟨rfl, hsz, hP, hK, hD0⟩ := hv
  have hts := atoms_spec (ws := ws_ y cc nL none) B.pre
  have hts : ∀ w ∈ lw_all, w.before _ s = true := fun w h => hts w (List.mem_cons_of_mem _ h)
  have hown : s.vm.findClass y.cls = some m.cls := findClass_of_methodNamed B.named
  have hlocks := B.notSynchronized
  subst hsz
  have hl := lv_entry As (n := nL) hlen
  rw [lg_entry_eq]
  refine body p e s m _ below meth c (va_A w0 s.heap.size) _ _ ⟨⟨B.exec, B.bytes, hml, hown, hts⟩, hK, B.returns, hlocks, fun q h => Or.inr h⟩ ?_ hl ⟨hP, hD0.self, va_S.rf⟩
  intro u H locs ls pc hp hw hdg
  exact W.vret B.exec B.bytes B.returns (fun t ht hW => ⟨⟨u, rfl, hp, by rw [ht]; exact hw.1, va_K.moved hW.alike hK, hw.2.1⟩, hw.2.2.F ht⟩) hw.2.2.2.2 hdg
/-! worlds side by side -/
theorem g_getL {w0 wr : va_W} {k : Nat} {q : Nat × va_E} (h : w0[k]? = some q) : (w0 ++ wr)[k]? = some q := by
  rw [List.getElem?_append_left (List.getElem?_eq_some_iff.mp h).1]
  exact h
theorem g_getR {w0 wr : va_W} {k : Nat} {q : Nat × va_E} (h : wr[k]? = some q) : (w0 ++ wr)[w0.length + k]? = some q := by
  rw [List.getElem?_append_right (Nat.le_add_right _ _), Nat.add_sub_cancel_left]
  exact h
theorem gSt.left {D : va_G} {A : Nat → Prop} {s : State} {w0 wr : va_W} {H : Heap} {locs : List Loc} (h : gSt D A s (w0 ++ wr) H locs) : gSt D A s w0 H locs :=
  ⟨fun k q hk => h.1 k q (g_getL hk), ⟨fun i j x y hi hj e => h.2.1.1 i j x y (g_getL hi) (g_getL hj) e, fun k q hk => h.2.1.2 k q (g_getL hk)⟩, h.2.2⟩
theorem gSt.right {D : va_G} {A : Nat → Prop} {s : State} {w0 wr : va_W} {H : Heap} {locs : List Loc} (h : gSt D A s (w0 ++ wr) H locs) : gSt D A s wr H locs :=
  ⟨fun k q hk => h.1 _ q (g_getR hk), ⟨fun i j x y hi hj e => Nat.add_left_cancel (h.2.1.1 _ _ x y (g_getR hi) (g_getR hj) e), fun k q hk => h.2.1.2 _ q (g_getR hk)⟩, h.2.2⟩
theorem gSt.apart {D : va_G} {A : Nat → Prop} {s : State} {w0 wr : va_W} {H : Heap} {locs : List Loc} (h : gSt D A s (w0 ++ wr) H locs) {i j : Nat} {x y : Nat × va_E} (hi : w0[i]? = some x) (hj : wr[j]? = some y) : x.1 ≠ y.1 := by
  intro e
  have h1 := h.2.1.1 i (w0.length + j) x y (g_getL hi) (g_getR hj) e
  have h2 := (List.getElem?_eq_some_iff.mp hi).1
  omega
theorem gSt.comm {D : va_G} {A : Nat → Prop} {s : State} {w0 wr : va_W} {H : Heap} {locs : List Loc} (h : gSt D A s (w0 ++ wr) H locs) : gSt D A s (wr ++ w0) H locs :=
  ⟨va_P.app h.right.1 h.left.1, va_D.app h.right.2.1 h.left.2.1 (fun i j x y hi hj e => h.apart hj hi e.symm), h.2.2⟩
/-- behind a call: the callee's new world beside the rest -/
theorem gSt.join {D : va_G} {A : Nat → Prop} {s : State} {w0 w1 wr : va_W} {H H1 : Heap} {locs locs1 : List Loc} (h : gSt D A s (w0 ++ wr) H locs) (hF : ∀ q, va_A w0 H.size q → A q) (hP1 : va_P D vwCl w1 H1) (hD1 : va_D (va_A w0 H.size) w1)
    (hk : ∀ q : Nat, q < H.size → ¬ va_A w0 H.size q → H1[q]? = H[q]?) (hS : va_S A s.heap H1 locs1) : gSt D A s (w1 ++ wr) H1 locs1 := by
  have apart : ∀ (k : Nat) (q : Nat × va_E), wr[k]? = some q → q.1 < H.size ∧ ¬ va_A w0 H.size q.1 := by
    intro k q hq
    have hl := (h.right.1 k q hq).lt
    refine ⟨hl, fun z => ?_⟩
    rcases z with ⟨k2, e, z⟩ | z
    · exact h.apart z hq rfl
    · omega
  refine ⟨va_P.app hP1 (fun k q hq => ?_), va_D.app (hD1.weaken (fun k q _ z => hF q.1 z)) h.right.2.1 (fun i j x y hx hy hxy => ?_), hS⟩
  · obtain ⟨g1, g2⟩ := apart k q hq
    exact (h.right.1 k q hq).kept (hk q.1 g1 g2)
  · exact (apart j y hy).2 (by rw [← hxy]; exact hD1.2 i x hx)
theorem gSt.free {D : va_G} {A : Nat → Prop} {s : State} {w0 : va_W} {H : Heap} {locs : List Loc} (h : gSt D A s w0 H locs) (hA : ∀ q, s.heap.size ≤ q → A q) : ∀ q, va_A w0 H.size q → A q := by
  intro q z
  rcases z with ⟨k, e, z⟩ | z
  · exact h.2.1.2 k (q, e) z
  · exact hA q (Nat.le_trans h.2.2.1 z)
theorem gPre_blind {As : List Value} {D : va_G} {d : ClassId} {w0 : va_W} {sz : Nat} : FrameBlind (va_Pc As (gPre D d w0 sz)) := by
  intro a U g mk q
  obtain ⟨q0, q1, qP, qK, qD⟩ := q
  exact ⟨q0, q1, qP, va_K.moved (u := U) (U := U.calling g mk a) (Vm.Alike.refl U.vm) qK, qD⟩
section GC
variable {p : Program} {l : Launch} {e : Env} {R : Room} {s : State} {m : MethodId} {args : Array Value} {below : List Frame} {meth : Method} {c : Code} {H : Heap} {locs : List Loc} {cells slots : Nat} {Q : State → Prop} {cc cb : ByteArray} {pc nL maxL f n na : Nat} {rt rty : Option FieldType} {ls : Array Slot} {rest st As : List Value} {D : va_G} {A : Nat → Prop} {d : ClassId} {own : String} {y : MethodName} {b : Nat} {w0 wr : va_W} {S : Type} {wf : S → va_W}
set_option maxHeartbeats 4000000 in
/-- a call through an object, the callee's world ahead of the rest; answer an int -/
theorem g_callVir {post : Int32 → S → Prop} (C : gCx own cc nL rt D d A p s m args meth c) (hM : CTi l y cb maxL rty (gRm f n) D d (.ref b :: As) w0 post wf) (idx : Nat) (Cn : String) (hT : GoodIn lw_all (wsV own idx Cn y (ws_ y cb maxL rty)))
    (hd : y.cls = Cn ∧ y.cls ≠ "java/lang/invoke/MethodHandle" ∧ y.cls ≠ "java/lang/invoke/VarHandle" ∧ (parseMethodDescriptor y.desc).map (fun d => d.parameters.length) = some na) (hna : As.length = na) (hR : f + 1 ≤ R.frames ∧ 8 + (maxL + 11) + n ≤ R.locals)
    (ci : Nat) {fs : List Value} (hb0 : w0[0]? = some (b, .inr (ci, fs))) {q : vw_C} (hcl : vwCl[ci]? = some q) (hqn : q.1 = Cn) (hw : gSt D A s (w0 ++ wr) H locs) (hl : ls.size = nL) (hst : st = As.reverse ++ .ref b :: rest) (hroom : (rest.map fun v => v.category).sum ≤ 8) (hf : cells ≤ R.cells ∧ slots ≤ R.slots) (hdg : decode cc pc = .ok (.invokevirtual idx, 3))
    (kk : ∀ (r : Int32) (u : S) (H1 : Heap) (locs1 : List Loc), post r u → gSt D A s (wf u ++ wr) H1 locs1 → W p l e R s m args below meth c H1 locs1 cells slots Q (F0 m (pc + 3) ls (.int r :: rest))) : W p l e R s m args below meth c H locs cells slots Q (F0 m pc ls st) := by
  have hF := hw.left.free C.2.2.2.2
  subst hqn
  refine va_calli (va_runV (g := F0 m pc ls st) (As := As) (rest := rest) C.1 (hM H.size) (cwV na C.1.2.2.2.2 hT rfl rfl rfl hd hR) ⟨gPre_blind, va_recv C.2.1 hw.left.1 hcl hb0, fun U hU hW => ⟨rfl, by rw [hU], by rw [hU]; exact hw.left.1, va_K.moved hW.alike C.2.1, hw.left.2.1.weaken (fun _ _ _ _ => trivial)⟩⟩ rfl hna hl hst (lv_room hroom) hdg hf) hw.2.2 (fun q _ h => hF q h) hF (fun r u t H1 locs1 ht hvm hp hB hz hk hS => ?_)
  obtain ⟨hP1, hK1, hD1⟩ := hB
  rw [ht] at hP1
  exact kk r u H1 locs1 hp (hw.join hF hP1 hD1 hk hS)
set_option maxHeartbeats 4000000 in
theorem g_callVvr {post : S → Prop} (C : gCx own cc nL rt D d A p s m args meth c) (hM : CTv l y cb maxL (gRm f n) D d (.ref b :: As) w0 post wf) (idx : Nat) (Cn : String) (hT : GoodIn lw_all (wsV own idx Cn y (ws_ y cb maxL none)))
    (hd : y.cls = Cn ∧ y.cls ≠ "java/lang/invoke/MethodHandle" ∧ y.cls ≠ "java/lang/invoke/VarHandle" ∧ (parseMethodDescriptor y.desc).map (fun d => d.parameters.length) = some na) (hna : As.length = na) (hR : f + 1 ≤ R.frames ∧ 8 + (maxL + 11) + n ≤ R.locals)
    (ci : Nat) {fs : List Value} (hb0 : w0[0]? = some (b, .inr (ci, fs))) {q : vw_C} (hcl : vwCl[ci]? = some q) (hqn : q.1 = Cn) (hw : gSt D A s (w0 ++ wr) H locs) (hl : ls.size = nL) (hst : st = As.reverse ++ .ref b :: rest) (hroom : (rest.map fun v => v.category).sum ≤ 8) (hf : cells ≤ R.cells ∧ slots ≤ R.slots) (hdg : decode cc pc = .ok (.invokevirtual idx, 3))
    (kk : ∀ (u : S) (H1 : Heap) (locs1 : List Loc), post u → gSt D A s (wf u ++ wr) H1 locs1 → W p l e R s m args below meth c H1 locs1 cells slots Q (F0 m (pc + 3) ls rest)) : W p l e R s m args below meth c H locs cells slots Q (F0 m pc ls st) := by
  have hF := hw.left.free C.2.2.2.2
  subst hqn
  refine va_callv (va_runV (g := F0 m pc ls st) (As := As) (rest := rest) C.1 (hM H.size) (cwV na C.1.2.2.2.2 hT rfl rfl rfl hd hR) ⟨gPre_blind, va_recv C.2.1 hw.left.1 hcl hb0, fun U hU hW => ⟨rfl, by rw [hU], by rw [hU]; exact hw.left.1, va_K.moved hW.alike C.2.1, hw.left.2.1.weaken (fun _ _ _ _ => trivial)⟩⟩ rfl hna hl hst (lv_room hroom) hdg hf) hw.2.2 (fun q _ h => hF q h) hF (fun u t H1 locs1 ht hvm hp hB hz hk hS => ?_)
  obtain ⟨hP1, hK1, hD1⟩ := hB
  rw [ht] at hP1
  exact kk u H1 locs1 hp (hw.join hF hP1 hD1 hk hS)
/-- the same, the callee's world being all -/
theorem g_callVi {post : Int32 → S → Prop} (C : gCx own cc nL rt D d A p s m args meth c) (hM : CTi l y cb maxL rty (gRm f n) D d (.ref b :: As) w0 post wf) (idx : Nat) (Cn : String) (hT : GoodIn lw_all (wsV own idx Cn y (ws_ y cb maxL rty)))
    (hd : y.cls = Cn ∧ y.cls ≠ "java/lang/invoke/MethodHandle" ∧ y.cls ≠ "java/lang/invoke/VarHandle" ∧ (parseMethodDescriptor y.desc).map (fun d => d.parameters.length) = some na) (hna : As.length = na) (hR : f + 1 ≤ R.frames ∧ 8 + (maxL + 11) + n ≤ R.locals)
    (ci : Nat) {fs : List Value} (hb0 : w0[0]? = some (b, .inr (ci, fs))) {q : vw_C} (hcl : vwCl[ci]? = some q) (hqn : q.1 = Cn) (hw : gSt D A s w0 H locs) (hl : ls.size = nL) (hst : st = As.reverse ++ .ref b :: rest) (hroom : (rest.map fun v => v.category).sum ≤ 8) (hf : cells ≤ R.cells ∧ slots ≤ R.slots) (hdg : decode cc pc = .ok (.invokevirtual idx, 3))
    (kk : ∀ (r : Int32) (u : S) (H1 : Heap) (locs1 : List Loc), post r u → gSt D A s (wf u) H1 locs1 → W p l e R s m args below meth c H1 locs1 cells slots Q (F0 m (pc + 3) ls (.int r :: rest))) : W p l e R s m args below meth c H locs cells slots Q (F0 m pc ls st) :=
  g_callVir (wr := []) C hM idx Cn hT hd hna hR ci hb0 hcl hqn (by rw [List.append_nil]; exact hw) hl hst hroom hf hdg (fun r u H1 locs1 hp hw1 => kk r u H1 locs1 hp (by rw [List.append_nil] at hw1; exact hw1))
theorem g_callVv {post : S → Prop} (C : gCx own cc nL rt D d A p s m args meth c) (hM : CTv l y cb maxL (gRm f n) D d (.ref b :: As) w0 post wf) (idx : Nat) (Cn : String) (hT : GoodIn lw_all (wsV own idx Cn y (ws_ y cb maxL none)))
    (hd : y.cls = Cn ∧ y.cls ≠ "java/lang/invoke/MethodHandle" ∧ y.cls ≠ "java/lang/invoke/VarHandle" ∧ (parseMethodDescriptor y.desc).map (fun d => d.parameters.length) = some na) (hna : As.length = na) (hR : f + 1 ≤ R.frames ∧ 8 + (maxL + 11) + n ≤ R.locals)
    (ci : Nat) {fs : List Value} (hb0 : w0[0]? = some (b, .inr (ci, fs))) {q : vw_C} (hcl : vwCl[ci]? = some q) (hqn : q.1 = Cn) (hw : gSt D A s w0 H locs) (hl : ls.size = nL) (hst : st = As.reverse ++ .ref b :: rest) (hroom : (rest.map fun v => v.category).sum ≤ 8) (hf : cells ≤ R.cells ∧ slots ≤ R.slots) (hdg : decode cc pc = .ok (.invokevirtual idx, 3))
    (kk : ∀ (u : S) (H1 : Heap) (locs1 : List Loc), post u → gSt D A s (wf u) H1 locs1 → W p l e R s m args below meth c H1 locs1 cells slots Q (F0 m (pc + 3) ls rest)) : W p l e R s m args below meth c H locs cells slots Q (F0 m pc ls st) :=
  g_callVvr (wr := []) C hM idx Cn hT hd hna hR ci hb0 hcl hqn (by rw [List.append_nil]; exact hw) hl hst hroom hf hdg (fun u H1 locs1 hp hw1 => kk u H1 locs1 hp (by rw [List.append_nil] at hw1; exact hw1))
set_option maxHeartbeats 4000000 in
/-- a static call: no world -/
theorem g_callSi {post : Int32 → Unit → Prop} (C : gCx own cc nL rt D d A p s m args meth c) (hM : CTi l y cb maxL rty (gRm f n) D d As [] post (fun _ => [])) (idx : Nat) (hT : GoodIn lw_all (va_wsS own idx y (ws_ y cb maxL rty)))
    (hd : y.cls ≠ "java/lang/invoke/MethodHandle" ∧ y.cls ≠ "java/lang/invoke/VarHandle" ∧ (parseMethodDescriptor y.desc).map (fun d => d.parameters.length) = some na) (hna : As.length = na) (hR : f + 1 ≤ R.frames ∧ 8 + (maxL + 11) + n ≤ R.locals)
    (hw : gSt D A s wr H locs) (hl : ls.size = nL) (hst : st = As.reverse ++ rest) (hroom : (rest.map fun v => v.category).sum ≤ 8) (hf : cells ≤ R.cells ∧ slots ≤ R.slots) (hdg : decode cc pc = .ok (.invokestatic idx, 3))
    (kk : ∀ (r : Int32) (H1 : Heap) (locs1 : List Loc), post r () → gSt D A s wr H1 locs1 → W p l e R s m args below meth c H1 locs1 cells slots Q (F0 m (pc + 3) ls (.int r :: rest))) : W p l e R s m args below meth c H locs cells slots Q (F0 m pc ls st) := by
  have hw : gSt D A s ([] ++ wr) H locs := hw
  have hF := hw.left.free C.2.2.2.2
  refine va_calli (va_runS (g := F0 m pc ls st) (As := As) (rest := rest) C.1 (hM H.size) (va_cwS na C.1.2.2.2.2 hT rfl rfl rfl hd hR) ⟨gPre_blind, fun U hU hW => ⟨rfl, by rw [hU], by rw [hU]; exact hw.left.1, va_K.moved hW.alike C.2.1, hw.left.2.1.weaken (fun _ _ _ _ => trivial)⟩⟩ rfl hna hl hst (lv_room hroom) hdg hf) hw.2.2 (fun q _ h => hF q h) hF (fun r u t H1 locs1 ht hvm hp hB hz hk hS => ?_)
  obtain ⟨hP1, hK1, hD1⟩ := hB
  rw [ht] at hP1
  exact kk r H1 locs1 hp (hw.join (w1 := []) hF hP1 hD1 hk hS)
end GC
end
section
/-- the cells of a GlobalTree -/
def gT (a : Nat → Nat) (d : ClassId) (dep : Int32) (sub : Nat → Int32) (lv : Int32) (siz : Nat → Int32) (ky : Nat → Int32) (va : Nat → Int32) (tot : Int32) (lf : Int32) (sl : Int32) (mk : Nat → Int32) (mv : Nat → Int32) (pk : Nat → Int32) (pv : Nat → Int32) : va_W := [(a 0, .inr (0, [.int dep, .ref (a 1), .int lv, .ref (a 2), .ref (a 3), .ref (a 4), .int tot, .int lf, .int sl, .ref (a 5), .ref (a 6), .ref (a 7), .ref (a 8)])), (a 1, .inl (d, 3, .inl sub)), (a 2, .inl (d, 32, .inl siz)), (a 3, .inl (d, 256, .inl ky)), (a 4, .inl (d, 256, .inl va)), (a 5, .inl (d, 60, .inl mk)), (a 6, .inl (d, 60, .inl mv)), (a 7, .inl (d, 60, .inl pk)), (a 8, .inl (d, 60, .inl pv))]
/-- the cells of a GlobalTreeModel -/
def gM (a : Nat → Nat) (d : ClassId) (li : Nat → Int32) (le : Nat → Int32) (vs : Nat → Int32) (nd : Int32) (po : Nat → Int32) (dp : Int32) : va_W := [(a 0, .inr (1, [.ref (a 1), .ref (a 2), .ref (a 3), .int nd, .ref (a 4), .int dp])), (a 1, .inl (d, 180, .inl li)), (a 2, .inl (d, 60, .inl le)), (a 3, .inl (d, 60, .inl vs)), (a 4, .inl (d, 3, .inl po))]
section FR
variable {p : Program} {l : Launch} {e : Env} {R : Room} {s : State} {m : MethodId} {args : Array Value} {below : List Frame} {meth : Method} {c : Code} {H : Heap} {locs : List Loc} {cells slots : Nat} {Q : State → Prop} {cc : ByteArray} {pc nL : Nat} {rt : Option FieldType} {ls : Array Slot} {rest : List Value} {D : va_G} {A : Nat → Prop} {a : Nat → Nat} {d : ClassId}
theorem gt_get_sub {dep : Int32} {sub : Nat → Int32} {lv : Int32} {siz : Nat → Int32} {ky : Nat → Int32} {va : Nat → Int32} {tot : Int32} {lf : Int32} {sl : Int32} {mk : Nat → Int32} {mv : Nat → Int32} {pk : Nat → Int32} {pv : Nat → Int32} (C : gCx RX0 cc nL rt D d A p s m args meth c) (hw : gSt D A s (gT a d dep sub lv siz ky va tot lf sl mk mv pk pv) H locs) (hdg : decode cc pc = .ok (.getfield 7, 3)) (kk : W p l e R s m args below meth c H locs cells slots Q (F0 m (pc + 3) ls (.ref (a 1) :: rest))) : W p l e R s m args below meth c H locs cells slots Q (F0 m pc ls (.ref (a 0) :: rest)) :=
  va_get (D := D) (ci := 0) (v := .ref (a 1)) (C := RX0) (T := TX0) (N := 13) C.1.1 C.1.2.1 C.1.2.2.2.2 in_X0 C.1.2.2.2.1 C.2.1 hw.1 0 rfl rfl 1 (by decide) (C.1.2.2.2.2 _ q34) (fun _ h9 => h9) rfl hdg kk
theorem gt_ald_sub {dep : Int32} {sub : Nat → Int32} {lv : Int32} {siz : Nat → Int32} {ky : Nat → Int32} {va : Nat → Int32} {tot : Int32} {lf : Int32} {sl : Int32} {mk : Nat → Int32} {mv : Nat → Int32} {pk : Nat → Int32} {pv : Nat → Int32} (C : gCx RX0 cc nL rt D d A p s m args meth c) (hw : gSt D A s (gT a d dep sub lv siz ky va tot lf sl mk mv pk pv) H locs) {i : Int32} (hi : vp_in i 3) (hdg : decode cc pc = .ok (.iaload, 1)) (kk : W p l e R s m args below meth c H locs cells slots Q (F0 m (pc + 1) ls (.int (sub i.toNatClampNeg) :: rest))) : W p l e R s m args below meth c H locs cells slots Q (F0 m pc ls (.int i :: .ref (a 1) :: rest)) :=
  va_iald C.1.1 C.1.2.1 C.2.1 hw.1 1 0 rfl rfl hi hdg kk
theorem gt_ast_sub {dep : Int32} {sub : Nat → Int32} {lv : Int32} {siz : Nat → Int32} {ky : Nat → Int32} {va : Nat → Int32} {tot : Int32} {lf : Int32} {sl : Int32} {mk : Nat → Int32} {mv : Nat → Int32} {pk : Nat → Int32} {pv : Nat → Int32} (C : gCx RX0 cc nL rt D d A p s m args meth c) (hw : gSt D A s (gT a d dep sub lv siz ky va tot lf sl mk mv pk pv) H locs) {i x : Int32} (hi : vp_in i 3) (hdg : decode cc pc = .ok (.iastore, 1)) (kk : ∀ (H1 : Heap) (locs1 : List Loc), gSt D A s (gT a d dep (upd sub i.toNatClampNeg x) lv siz ky va tot lf sl mk mv pk pv) H1 locs1 → W p l e R s m args below meth c H1 locs1 cells slots Q (F0 m (pc + 1) ls rest)) : W p l e R s m args below meth c H locs cells slots Q (F0 m pc ls (.int x :: .int i :: .ref (a 1) :: rest)) :=
  va_iast C.1.1 C.1.2.1 C.2.1 hw.1 hw.2.1 hw.2.2 1 0 rfl rfl hi hdg (fun H1 locs1 hP hD hS => kk H1 locs1 ⟨hP, hD, hS⟩)
theorem gt_get_siz {dep : Int32} {sub : Nat → Int32} {lv : Int32} {siz : Nat → Int32} {ky : Nat → Int32} {va : Nat → Int32} {tot : Int32} {lf : Int32} {sl : Int32} {mk : Nat → Int32} {mv : Nat → Int32} {pk : Nat → Int32} {pv : Nat → Int32} (C : gCx RX0 cc nL rt D d A p s m args meth c) (hw : gSt D A s (gT a d dep sub lv siz ky va tot lf sl mk mv pk pv) H locs) (hdg : decode cc pc = .ok (.getfield 13, 3)) (kk : W p l e R s m args below meth c H locs cells slots Q (F0 m (pc + 3) ls (.ref (a 2) :: rest))) : W p l e R s m args below meth c H locs cells slots Q (F0 m pc ls (.ref (a 0) :: rest)) :=
  va_get (D := D) (ci := 0) (v := .ref (a 2)) (C := RX0) (T := TX0) (N := 13) C.1.1 C.1.2.1 C.1.2.2.2.2 in_X0 C.1.2.2.2.1 C.2.1 hw.1 0 rfl rfl 3 (by decide) (C.1.2.2.2.2 _ q36) (fun _ h9 => h9) rfl hdg kk
theorem gt_ald_siz {dep : Int32} {sub : Nat → Int32} {lv : Int32} {siz : Nat → Int32} {ky : Nat → Int32} {va : Nat → Int32} {tot : Int32} {lf : Int32} {sl : Int32} {mk : Nat → Int32} {mv : Nat → Int32} {pk : Nat → Int32} {pv : Nat → Int32} (C : gCx RX0 cc nL rt D d A p s m args meth c) (hw : gSt D A s (gT a d dep sub lv siz ky va tot lf sl mk mv pk pv) H locs) {i : Int32} (hi : vp_in i 32) (hdg : decode cc pc = .ok (.iaload, 1)) (kk : W p l e R s m args below meth c H locs cells slots Q (F0 m (pc + 1) ls (.int (siz i.toNatClampNeg) :: rest))) : W p l e R s m args below meth c H locs cells slots Q (F0 m pc ls (.int i :: .ref (a 2) :: rest)) :=
  va_iald C.1.1 C.1.2.1 C.2.1 hw.1 2 0 rfl rfl hi hdg kk
theorem gt_ast_siz {dep : Int32} {sub : Nat → Int32} {lv : Int32} {siz : Nat → Int32} {ky : Nat → Int32} {va : Nat → Int32} {tot : Int32} {lf : Int32} {sl : Int32} {mk : Nat → Int32} {mv : Nat → Int32} {pk : Nat → Int32} {pv : Nat → Int32} (C : gCx RX0 cc nL rt D d A p s m args meth c) (hw : gSt D A s (gT a d dep sub lv siz ky va tot lf sl mk mv pk pv) H locs) {i x : Int32} (hi : vp_in i 32) (hdg : decode cc pc = .ok (.iastore, 1)) (kk : ∀ (H1 : Heap) (locs1 : List Loc), gSt D A s (gT a d dep sub lv (upd siz i.toNatClampNeg x) ky va tot lf sl mk mv pk pv) H1 locs1 → W p l e R s m args below meth c H1 locs1 cells slots Q (F0 m (pc + 1) ls rest)) : W p l e R s m args below meth c H locs cells slots Q (F0 m pc ls (.int x :: .int i :: .ref (a 2) :: rest)) :=
  va_iast C.1.1 C.1.2.1 C.2.1 hw.1 hw.2.1 hw.2.2 2 0 rfl rfl hi hdg (fun H1 locs1 hP hD hS => kk H1 locs1 ⟨hP, hD, hS⟩)
theorem gt_get_ky {dep : Int32} {sub : Nat → Int32} {lv : Int32} {siz : Nat → Int32} {ky : Nat → Int32} {va : Nat → Int32} {tot : Int32} {lf : Int32} {sl : Int32} {mk : Nat → Int32} {mv : Nat → Int32} {pk : Nat → Int32} {pv : Nat → Int32} (C : gCx RX0 cc nL rt D d A p s m args meth c) (hw : gSt D A s (gT a d dep sub lv siz ky va tot lf sl mk mv pk pv) H locs) (hdg : decode cc pc = .ok (.getfield 16, 3)) (kk : W p l e R s m args below meth c H locs cells slots Q (F0 m (pc + 3) ls (.ref (a 3) :: rest))) : W p l e R s m args below meth c H locs cells slots Q (F0 m pc ls (.ref (a 0) :: rest)) :=
  va_get (D := D) (ci := 0) (v := .ref (a 3)) (C := RX0) (T := TX0) (N := 13) C.1.1 C.1.2.1 C.1.2.2.2.2 in_X0 C.1.2.2.2.1 C.2.1 hw.1 0 rfl rfl 4 (by decide) (C.1.2.2.2.2 _ q37) (fun _ h9 => h9) rfl hdg kk
theorem gt_ald_ky {dep : Int32} {sub : Nat → Int32} {lv : Int32} {siz : Nat → Int32} {ky : Nat → Int32} {va : Nat → Int32} {tot : Int32} {lf : Int32} {sl : Int32} {mk : Nat → Int32} {mv : Nat → Int32} {pk : Nat → Int32} {pv : Nat → Int32} (C : gCx RX0 cc nL rt D d A p s m args meth c) (hw : gSt D A s (gT a d dep sub lv siz ky va tot lf sl mk mv pk pv) H locs) {i : Int32} (hi : vp_in i 256) (hdg : decode cc pc = .ok (.iaload, 1)) (kk : W p l e R s m args below meth c H locs cells slots Q (F0 m (pc + 1) ls (.int (ky i.toNatClampNeg) :: rest))) : W p l e R s m args below meth c H locs cells slots Q (F0 m pc ls (.int i :: .ref (a 3) :: rest)) :=
  va_iald C.1.1 C.1.2.1 C.2.1 hw.1 3 0 rfl rfl hi hdg kk
theorem gt_ast_ky {dep : Int32} {sub : Nat → Int32} {lv : Int32} {siz : Nat → Int32} {ky : Nat → Int32} {va : Nat → Int32} {tot : Int32} {lf : Int32} {sl : Int32} {mk : Nat → Int32} {mv : Nat → Int32} {pk : Nat → Int32} {pv : Nat → Int32} (C : gCx RX0 cc nL rt D d A p s m args meth c) (hw : gSt D A s (gT a d dep sub lv siz ky va tot lf sl mk mv pk pv) H locs) {i x : Int32} (hi : vp_in i 256) (hdg : decode cc pc = .ok (.iastore, 1)) (kk : ∀ (H1 : Heap) (locs1 : List Loc), gSt D A s (gT a d dep sub lv siz (upd ky i.toNatClampNeg x) va tot lf sl mk mv pk pv) H1 locs1 → W p l e R s m args below meth c H1 locs1 cells slots Q (F0 m (pc + 1) ls rest)) : W p l e R s m args below meth c H locs cells slots Q (F0 m pc ls (.int x :: .int i :: .ref (a 3) :: rest)) :=
  va_iast C.1.1 C.1.2.1 C.2.1 hw.1 hw.2.1 hw.2.2 3 0 rfl rfl hi hdg (fun H1 locs1 hP hD hS => kk H1 locs1 ⟨hP, hD, hS⟩)
theorem gt_get_va {dep : Int32} {sub : Nat → Int32} {lv : Int32} {siz : Nat → Int32} {ky : Nat → Int32} {va : Nat → Int32} {tot : Int32} {lf : Int32} {sl : Int32} {mk : Nat → Int32} {mv : Nat → Int32} {pk : Nat → Int32} {pv : Nat → Int32} (C : gCx RX0 cc nL rt D d A p s m args meth c) (hw : gSt D A s (gT a d dep sub lv siz ky va tot lf sl mk mv pk pv) H locs) (hdg : decode cc pc = .ok (.getfield 19, 3)) (kk : W p l e R s m args below meth c H locs cells slots Q (F0 m (pc + 3) ls (.ref (a 4) :: rest))) : W p l e R s m args below meth c H locs cells slots Q (F0 m pc ls (.ref (a 0) :: rest)) :=
  va_get (D := D) (ci := 0) (v := .ref (a 4)) (C := RX0) (T := TX0) (N := 13) C.1.1 C.1.2.1 C.1.2.2.2.2 in_X0 C.1.2.2.2.1 C.2.1 hw.1 0 rfl rfl 5 (by decide) (C.1.2.2.2.2 _ q38) (fun _ h9 => h9) rfl hdg kk
theorem gt_ald_va {dep : Int32} {sub : Nat → Int32} {lv : Int32} {siz : Nat → Int32} {ky : Nat → Int32} {va : Nat → Int32} {tot : Int32} {lf : Int32} {sl : Int32} {mk : Nat → Int32} {mv : Nat → Int32} {pk : Nat → Int32} {pv : Nat → Int32} (C : gCx RX0 cc nL rt D d A p s m args meth c) (hw : gSt D A s (gT a d dep sub lv siz ky va tot lf sl mk mv pk pv) H locs) {i : Int32} (hi : vp_in i 256) (hdg : decode cc pc = .ok (.iaload, 1)) (kk : W p l e R s m args below meth c H locs cells slots Q (F0 m (pc + 1) ls (.int (va i.toNatClampNeg) :: rest))) : W p l e R s m args below meth c H locs cells slots Q (F0 m pc ls (.int i :: .ref (a 4) :: rest)) :=
  va_iald C.1.1 C.1.2.1 C.2.1 hw.1 4 0 rfl rfl hi hdg kk
theorem gt_ast_va {dep : Int32} {sub : Nat → Int32} {lv : Int32} {siz : Nat → Int32} {ky : Nat → Int32} {va : Nat → Int32} {tot : Int32} {lf : Int32} {sl : Int32} {mk : Nat → Int32} {mv : Nat → Int32} {pk : Nat → Int32} {pv : Nat → Int32} (C : gCx RX0 cc nL rt D d A p s m args meth c) (hw : gSt D A s (gT a d dep sub lv siz ky va tot lf sl mk mv pk pv) H locs) {i x : Int32} (hi : vp_in i 256) (hdg : decode cc pc = .ok (.iastore, 1)) (kk : ∀ (H1 : Heap) (locs1 : List Loc), gSt D A s (gT a d dep sub lv siz ky (upd va i.toNatClampNeg x) tot lf sl mk mv pk pv) H1 locs1 → W p l e R s m args below meth c H1 locs1 cells slots Q (F0 m (pc + 1) ls rest)) : W p l e R s m args below meth c H locs cells slots Q (F0 m pc ls (.int x :: .int i :: .ref (a 4) :: rest)) :=
  va_iast C.1.1 C.1.2.1 C.2.1 hw.1 hw.2.1 hw.2.2 4 0 rfl rfl hi hdg (fun H1 locs1 hP hD hS => kk H1 locs1 ⟨hP, hD, hS⟩)
theorem gt_get_mk {dep : Int32} {sub : Nat → Int32} {lv : Int32} {siz : Nat → Int32} {ky : Nat → Int32} {va : Nat → Int32} {tot : Int32} {lf : Int32} {sl : Int32} {mk : Nat → Int32} {mv : Nat → Int32} {pk : Nat → Int32} {pv : Nat → Int32} (C : gCx RX0 cc nL rt D d A p s m args meth c) (hw : gSt D A s (gT a d dep sub lv siz ky va tot lf sl mk mv pk pv) H locs) (hdg : decode cc pc = .ok (.getfield 22, 3)) (kk : W p l e R s m args below meth c H locs cells slots Q (F0 m (pc + 3) ls (.ref (a 5) :: rest))) : W p l e R s m args below meth c H locs cells slots Q (F0 m pc ls (.ref (a 0) :: rest)) :=
  va_get (D := D) (ci := 0) (v := .ref (a 5)) (C := RX0) (T := TX0) (N := 13) C.1.1 C.1.2.1 C.1.2.2.2.2 in_X0 C.1.2.2.2.1 C.2.1 hw.1 0 rfl rfl 9 (by decide) (C.1.2.2.2.2 _ q42) (fun _ h9 => h9) rfl hdg kk
theorem gt_ald_mk {dep : Int32} {sub : Nat → Int32} {lv : Int32} {siz : Nat → Int32} {ky : Nat → Int32} {va : Nat → Int32} {tot : Int32} {lf : Int32} {sl : Int32} {mk : Nat → Int32} {mv : Nat → Int32} {pk : Nat → Int32} {pv : Nat → Int32} (C : gCx RX0 cc nL rt D d A p s m args meth c) (hw : gSt D A s (gT a d dep sub lv siz ky va tot lf sl mk mv pk pv) H locs) {i : Int32} (hi : vp_in i 60) (hdg : decode cc pc = .ok (.iaload, 1)) (kk : W p l e R s m args below meth c H locs cells slots Q (F0 m (pc + 1) ls (.int (mk i.toNatClampNeg) :: rest))) : W p l e R s m args below meth c H locs cells slots Q (F0 m pc ls (.int i :: .ref (a 5) :: rest)) :=
  va_iald C.1.1 C.1.2.1 C.2.1 hw.1 5 0 rfl rfl hi hdg kk
theorem gt_ast_mk {dep : Int32} {sub : Nat → Int32} {lv : Int32} {siz : Nat → Int32} {ky : Nat → Int32} {va : Nat → Int32} {tot : Int32} {lf : Int32} {sl : Int32} {mk : Nat → Int32} {mv : Nat → Int32} {pk : Nat → Int32} {pv : Nat → Int32} (C : gCx RX0 cc nL rt D d A p s m args meth c) (hw : gSt D A s (gT a d dep sub lv siz ky va tot lf sl mk mv pk pv) H locs) {i x : Int32} (hi : vp_in i 60) (hdg : decode cc pc = .ok (.iastore, 1)) (kk : ∀ (H1 : Heap) (locs1 : List Loc), gSt D A s (gT a d dep sub lv siz ky va tot lf sl (upd mk i.toNatClampNeg x) mv pk pv) H1 locs1 → W p l e R s m args below meth c H1 locs1 cells slots Q (F0 m (pc + 1) ls rest)) : W p l e R s m args below meth c H locs cells slots Q (F0 m pc ls (.int x :: .int i :: .ref (a 5) :: rest)) :=
  va_iast C.1.1 C.1.2.1 C.2.1 hw.1 hw.2.1 hw.2.2 5 0 rfl rfl hi hdg (fun H1 locs1 hP hD hS => kk H1 locs1 ⟨hP, hD, hS⟩)
theorem gt_get_mv {dep : Int32} {sub : Nat → Int32} {lv : Int32} {siz : Nat → Int32} {ky : Nat → Int32} {va : Nat → Int32} {tot : Int32} {lf : Int32} {sl : Int32} {mk : Nat → Int32} {mv : Nat → Int32} {pk : Nat → Int32} {pv : Nat → Int32} (C : gCx RX0 cc nL rt D d A p s m args meth c) (hw : gSt D A s (gT a d dep sub lv siz ky va tot lf sl mk mv pk pv) H locs) (hdg : decode cc pc = .ok (.getfield 25, 3)) (kk : W p l e R s m args below meth c H locs cells slots Q (F0 m (pc + 3) ls (.ref (a 6) :: rest))) : W p l e R s m args below meth c H locs cells slots Q (F0 m pc ls (.ref (a 0) :: rest)) :=
  va_get (D := D) (ci := 0) (v := .ref (a 6)) (C := RX0) (T := TX0) (N := 13) C.1.1 C.1.2.1 C.1.2.2.2.2 in_X0 C.1.2.2.2.1 C.2.1 hw.1 0 rfl rfl 10 (by decide) (C.1.2.2.2.2 _ q43) (fun _ h9 => h9) rfl hdg kk
theorem gt_ald_mv {dep : Int32} {sub : Nat → Int32} {lv : Int32} {siz : Nat → Int32} {ky : Nat → Int32} {va : Nat → Int32} {tot : Int32} {lf : Int32} {sl : Int32} {mk : Nat → Int32} {mv : Nat → Int32} {pk : Nat → Int32} {pv : Nat → Int32} (C : gCx RX0 cc nL rt D d A p s m args meth c) (hw : gSt D A s (gT a d dep sub lv siz ky va tot lf sl mk mv pk pv) H locs) {i : Int32} (hi : vp_in i 60) (hdg : decode cc pc = .ok (.iaload, 1)) (kk : W p l e R s m args below meth c H locs cells slots Q (F0 m (pc + 1) ls (.int (mv i.toNatClampNeg) :: rest))) : W p l e R s m args below meth c H locs cells slots Q (F0 m pc ls (.int i :: .ref (a 6) :: rest)) :=
  va_iald C.1.1 C.1.2.1 C.2.1 hw.1 6 0 rfl rfl hi hdg kk
theorem gt_ast_mv {dep : Int32} {sub : Nat → Int32} {lv : Int32} {siz : Nat → Int32} {ky : Nat → Int32} {va : Nat → Int32} {tot : Int32} {lf : Int32} {sl : Int32} {mk : Nat → Int32} {mv : Nat → Int32} {pk : Nat → Int32} {pv : Nat → Int32} (C : gCx RX0 cc nL rt D d A p s m args meth c) (hw : gSt D A s (gT a d dep sub lv siz ky va tot lf sl mk mv pk pv) H locs) {i x : Int32} (hi : vp_in i 60) (hdg : decode cc pc = .ok (.iastore, 1)) (kk : ∀ (H1 : Heap) (locs1 : List Loc), gSt D A s (gT a d dep sub lv siz ky va tot lf sl mk (upd mv i.toNatClampNeg x) pk pv) H1 locs1 → W p l e R s m args below meth c H1 locs1 cells slots Q (F0 m (pc + 1) ls rest)) : W p l e R s m args below meth c H locs cells slots Q (F0 m pc ls (.int x :: .int i :: .ref (a 6) :: rest)) :=
  va_iast C.1.1 C.1.2.1 C.2.1 hw.1 hw.2.1 hw.2.2 6 0 rfl rfl hi hdg (fun H1 locs1 hP hD hS => kk H1 locs1 ⟨hP, hD, hS⟩)
theorem gt_get_pk {dep : Int32} {sub : Nat → Int32} {lv : Int32} {siz : Nat → Int32} {ky : Nat → Int32} {va : Nat → Int32} {tot : Int32} {lf : Int32} {sl : Int32} {mk : Nat → Int32} {mv : Nat → Int32} {pk : Nat → Int32} {pv : Nat → Int32} (C : gCx RX0 cc nL rt D d A p s m args meth c) (hw : gSt D A s (gT a d dep sub lv siz ky va tot lf sl mk mv pk pv) H locs) (hdg : decode cc pc = .ok (.getfield 28, 3)) (kk : W p l e R s m args below meth c H locs cells slots Q (F0 m (pc + 3) ls (.ref (a 7) :: rest))) : W p l e R s m args below meth c H locs cells slots Q (F0 m pc ls (.ref (a 0) :: rest)) :=
  va_get (D := D) (ci := 0) (v := .ref (a 7)) (C := RX0) (T := TX0) (N := 13) C.1.1 C.1.2.1 C.1.2.2.2.2 in_X0 C.1.2.2.2.1 C.2.1 hw.1 0 rfl rfl 11 (by decide) (C.1.2.2.2.2 _ q44) (fun _ h9 => h9) rfl hdg kk
theorem gt_ald_pk {dep : Int32} {sub : Nat → Int32} {lv : Int32} {siz : Nat → Int32} {ky : Nat → Int32} {va : Nat → Int32} {tot : Int32} {lf : Int32} {sl : Int32} {mk : Nat → Int32} {mv : Nat → Int32} {pk : Nat → Int32} {pv : Nat → Int32} (C : gCx RX0 cc nL rt D d A p s m args meth c) (hw : gSt D A s (gT a d dep sub lv siz ky va tot lf sl mk mv pk pv) H locs) {i : Int32} (hi : vp_in i 60) (hdg : decode cc pc = .ok (.iaload, 1)) (kk : W p l e R s m args below meth c H locs cells slots Q (F0 m (pc + 1) ls (.int (pk i.toNatClampNeg) :: rest))) : W p l e R s m args below meth c H locs cells slots Q (F0 m pc ls (.int i :: .ref (a 7) :: rest)) :=
  va_iald C.1.1 C.1.2.1 C.2.1 hw.1 7 0 rfl rfl hi hdg kk
theorem gt_ast_pk {dep : Int32} {sub : Nat → Int32} {lv : Int32} {siz : Nat → Int32} {ky : Nat → Int32} {va : Nat → Int32} {tot : Int32} {lf : Int32} {sl : Int32} {mk : Nat → Int32} {mv : Nat → Int32} {pk : Nat → Int32} {pv : Nat → Int32} (C : gCx RX0 cc nL rt D d A p s m args meth c) (hw : gSt D A s (gT a d dep sub lv siz ky va tot lf sl mk mv pk pv) H locs) {i x : Int32} (hi : vp_in i 60) (hdg : decode cc pc = .ok (.iastore, 1)) (kk : ∀ (H1 : Heap) (locs1 : List Loc), gSt D A s (gT a d dep sub lv siz ky va tot lf sl mk mv (upd pk i.toNatClampNeg x) pv) H1 locs1 → W p l e R s m args below meth c H1 locs1 cells slots Q (F0 m (pc + 1) ls rest)) : W p l e R s m args below meth c H locs cells slots Q (F0 m pc ls (.int x :: .int i :: .ref (a 7) :: rest)) :=
  va_iast C.1.1 C.1.2.1 C.2.1 hw.1 hw.2.1 hw.2.2 7 0 rfl rfl hi hdg (fun H1 locs1 hP hD hS => kk H1 locs1 ⟨hP, hD, hS⟩)
theorem gt_get_pv {dep : Int32} {sub : Nat → Int32} {lv : Int32} {siz : Nat → Int32} {ky : Nat → Int32} {va : Nat → Int32} {tot : Int32} {lf : Int32} {sl : Int32} {mk : Nat → Int32} {mv : Nat → Int32} {pk : Nat → Int32} {pv : Nat → Int32} (C : gCx RX0 cc nL rt D d A p s m args meth c) (hw : gSt D A s (gT a d dep sub lv siz ky va tot lf sl mk mv pk pv) H locs) (hdg : decode cc pc = .ok (.getfield 31, 3)) (kk : W p l e R s m args below meth c H locs cells slots Q (F0 m (pc + 3) ls (.ref (a 8) :: rest))) : W p l e R s m args below meth c H locs cells slots Q (F0 m pc ls (.ref (a 0) :: rest)) :=
  va_get (D := D) (ci := 0) (v := .ref (a 8)) (C := RX0) (T := TX0) (N := 13) C.1.1 C.1.2.1 C.1.2.2.2.2 in_X0 C.1.2.2.2.1 C.2.1 hw.1 0 rfl rfl 12 (by decide) (C.1.2.2.2.2 _ q45) (fun _ h9 => h9) rfl hdg kk
theorem gt_ald_pv {dep : Int32} {sub : Nat → Int32} {lv : Int32} {siz : Nat → Int32} {ky : Nat → Int32} {va : Nat → Int32} {tot : Int32} {lf : Int32} {sl : Int32} {mk : Nat → Int32} {mv : Nat → Int32} {pk : Nat → Int32} {pv : Nat → Int32} (C : gCx RX0 cc nL rt D d A p s m args meth c) (hw : gSt D A s (gT a d dep sub lv siz ky va tot lf sl mk mv pk pv) H locs) {i : Int32} (hi : vp_in i 60) (hdg : decode cc pc = .ok (.iaload, 1)) (kk : W p l e R s m args below meth c H locs cells slots Q (F0 m (pc + 1) ls (.int (pv i.toNatClampNeg) :: rest))) : W p l e R s m args below meth c H locs cells slots Q (F0 m pc ls (.int i :: .ref (a 8) :: rest)) :=
  va_iald C.1.1 C.1.2.1 C.2.1 hw.1 8 0 rfl rfl hi hdg kk
theorem gt_ast_pv {dep : Int32} {sub : Nat → Int32} {lv : Int32} {siz : Nat → Int32} {ky : Nat → Int32} {va : Nat → Int32} {tot : Int32} {lf : Int32} {sl : Int32} {mk : Nat → Int32} {mv : Nat → Int32} {pk : Nat → Int32} {pv : Nat → Int32} (C : gCx RX0 cc nL rt D d A p s m args meth c) (hw : gSt D A s (gT a d dep sub lv siz ky va tot lf sl mk mv pk pv) H locs) {i x : Int32} (hi : vp_in i 60) (hdg : decode cc pc = .ok (.iastore, 1)) (kk : ∀ (H1 : Heap) (locs1 : List Loc), gSt D A s (gT a d dep sub lv siz ky va tot lf sl mk mv pk (upd pv i.toNatClampNeg x)) H1 locs1 → W p l e R s m args below meth c H1 locs1 cells slots Q (F0 m (pc + 1) ls rest)) : W p l e R s m args below meth c H locs cells slots Q (F0 m pc ls (.int x :: .int i :: .ref (a 8) :: rest)) :=
  va_iast C.1.1 C.1.2.1 C.2.1 hw.1 hw.2.1 hw.2.2 8 0 rfl rfl hi hdg (fun H1 locs1 hP hD hS => kk H1 locs1 ⟨hP, hD, hS⟩)
theorem gt_get_lv {dep : Int32} {sub : Nat → Int32} {lv : Int32} {siz : Nat → Int32} {ky : Nat → Int32} {va : Nat → Int32} {tot : Int32} {lf : Int32} {sl : Int32} {mk : Nat → Int32} {mv : Nat → Int32} {pk : Nat → Int32} {pv : Nat → Int32} (C : gCx RX0 cc nL rt D d A p s m args meth c) (hw : gSt D A s (gT a d dep sub lv siz ky va tot lf sl mk mv pk pv) H locs) (hdg : decode cc pc = .ok (.getfield 34, 3)) (kk : W p l e R s m args below meth c H locs cells slots Q (F0 m (pc + 3) ls (.int lv :: rest))) : W p l e R s m args below meth c H locs cells slots Q (F0 m pc ls (.ref (a 0) :: rest)) :=
  va_get (D := D) (ci := 0) (v := .int lv) (C := RX0) (T := TX0) (N := 13) C.1.1 C.1.2.1 C.1.2.2.2.2 in_X0 C.1.2.2.2.1 C.2.1 hw.1 0 rfl rfl 2 (by decide) (C.1.2.2.2.2 _ q35) (fun _ h9 => h9) rfl hdg kk
theorem gt_put_lv {dep : Int32} {sub : Nat → Int32} {lv : Int32} {siz : Nat → Int32} {ky : Nat → Int32} {va : Nat → Int32} {tot : Int32} {lf : Int32} {sl : Int32} {mk : Nat → Int32} {mv : Nat → Int32} {pk : Nat → Int32} {pv : Nat → Int32} (C : gCx RX0 cc nL rt D d A p s m args meth c) (hw : gSt D A s (gT a d dep sub lv siz ky va tot lf sl mk mv pk pv) H locs) {x : Int32} (hdg : decode cc pc = .ok (.putfield 34, 3)) (kk : ∀ (H1 : Heap) (locs1 : List Loc), gSt D A s (gT a d dep sub x siz ky va tot lf sl mk mv pk pv) H1 locs1 → W p l e R s m args below meth c H1 locs1 cells slots Q (F0 m (pc + 3) ls rest)) : W p l e R s m args below meth c H locs cells slots Q (F0 m pc ls (.int x :: .ref (a 0) :: rest)) :=
  va_put (D := D) (ci := 0) (v := .int x) (ty := .int) (C := RX0) (T := TX0) (N := 13) C.1.1 C.1.2.1 C.1.2.2.2.2 in_X0 tyX0 tyX0_ok nmX0 C.1.2.2.2.1 C.2.1 hw.1 hw.2.1 hw.2.2 0 rfl rfl 2 (by decide) (C.1.2.2.2.2 _ q35) (fun _ h9 => h9) rfl (by decide +kernel) rfl rfl (Nat.le_of_ble_eq_true rfl) hdg (fun H1 locs1 hP hD hS => kk H1 locs1 ⟨hP, hD, hS⟩)
theorem gt_get_dep {dep : Int32} {sub : Nat → Int32} {lv : Int32} {siz : Nat → Int32} {ky : Nat → Int32} {va : Nat → Int32} {tot : Int32} {lf : Int32} {sl : Int32} {mk : Nat → Int32} {mv : Nat → Int32} {pk : Nat → Int32} {pv : Nat → Int32} (C : gCx RX0 cc nL rt D d A p s m args meth c) (hw : gSt D A s (gT a d dep sub lv siz ky va tot lf sl mk mv pk pv) H locs) (hdg : decode cc pc = .ok (.getfield 42, 3)) (kk : W p l e R s m args below meth c H locs cells slots Q (F0 m (pc + 3) ls (.int dep :: rest))) : W p l e R s m args below meth c H locs cells slots Q (F0 m pc ls (.ref (a 0) :: rest)) :=
  va_get (D := D) (ci := 0) (v := .int dep) (C := RX0) (T := TX0) (N := 13) C.1.1 C.1.2.1 C.1.2.2.2.2 in_X0 C.1.2.2.2.1 C.2.1 hw.1 0 rfl rfl 0 (by decide) (C.1.2.2.2.2 _ q33) (fun _ h9 => h9) rfl hdg kk
theorem gt_put_dep {dep : Int32} {sub : Nat → Int32} {lv : Int32} {siz : Nat → Int32} {ky : Nat → Int32} {va : Nat → Int32} {tot : Int32} {lf : Int32} {sl : Int32} {mk : Nat → Int32} {mv : Nat → Int32} {pk : Nat → Int32} {pv : Nat → Int32} (C : gCx RX0 cc nL rt D d A p s m args meth c) (hw : gSt D A s (gT a d dep sub lv siz ky va tot lf sl mk mv pk pv) H locs) {x : Int32} (hdg : decode cc pc = .ok (.putfield 42, 3)) (kk : ∀ (H1 : Heap) (locs1 : List Loc), gSt D A s (gT a d x sub lv siz ky va tot lf sl mk mv pk pv) H1 locs1 → W p l e R s m args below meth c H1 locs1 cells slots Q (F0 m (pc + 3) ls rest)) : W p l e R s m args below meth c H locs cells slots Q (F0 m pc ls (.int x :: .ref (a 0) :: rest)) :=
  va_put (D := D) (ci := 0) (v := .int x) (ty := .int) (C := RX0) (T := TX0) (N := 13) C.1.1 C.1.2.1 C.1.2.2.2.2 in_X0 tyX0 tyX0_ok nmX0 C.1.2.2.2.1 C.2.1 hw.1 hw.2.1 hw.2.2 0 rfl rfl 0 (by decide) (C.1.2.2.2.2 _ q33) (fun _ h9 => h9) rfl (by decide +kernel) rfl rfl (Nat.le_of_ble_eq_true rfl) hdg (fun H1 locs1 hP hD hS => kk H1 locs1 ⟨hP, hD, hS⟩)
theorem gt_get_lf {dep : Int32} {sub : Nat → Int32} {lv : Int32} {siz : Nat → Int32} {ky : Nat → Int32} {va : Nat → Int32} {tot : Int32} {lf : Int32} {sl : Int32} {mk : Nat → Int32} {mv : Nat → Int32} {pk : Nat → Int32} {pv : Nat → Int32} (C : gCx RX0 cc nL rt D d A p s m args meth c) (hw : gSt D A s (gT a d dep sub lv siz ky va tot lf sl mk mv pk pv) H locs) (hdg : decode cc pc = .ok (.getfield 53, 3)) (kk : W p l e R s m args below meth c H locs cells slots Q (F0 m (pc + 3) ls (.int lf :: rest))) : W p l e R s m args below meth c H locs cells slots Q (F0 m pc ls (.ref (a 0) :: rest)) :=
  va_get (D := D) (ci := 0) (v := .int lf) (C := RX0) (T := TX0) (N := 13) C.1.1 C.1.2.1 C.1.2.2.2.2 in_X0 C.1.2.2.2.1 C.2.1 hw.1 0 rfl rfl 7 (by decide) (C.1.2.2.2.2 _ q40) (fun _ h9 => h9) rfl hdg kk
theorem gt_put_lf {dep : Int32} {sub : Nat → Int32} {lv : Int32} {siz : Nat → Int32} {ky : Nat → Int32} {va : Nat → Int32} {tot : Int32} {lf : Int32} {sl : Int32} {mk : Nat → Int32} {mv : Nat → Int32} {pk : Nat → Int32} {pv : Nat → Int32} (C : gCx RX0 cc nL rt D d A p s m args meth c) (hw : gSt D A s (gT a d dep sub lv siz ky va tot lf sl mk mv pk pv) H locs) {x : Int32} (hdg : decode cc pc = .ok (.putfield 53, 3)) (kk : ∀ (H1 : Heap) (locs1 : List Loc), gSt D A s (gT a d dep sub lv siz ky va tot x sl mk mv pk pv) H1 locs1 → W p l e R s m args below meth c H1 locs1 cells slots Q (F0 m (pc + 3) ls rest)) : W p l e R s m args below meth c H locs cells slots Q (F0 m pc ls (.int x :: .ref (a 0) :: rest)) :=
  va_put (D := D) (ci := 0) (v := .int x) (ty := .int) (C := RX0) (T := TX0) (N := 13) C.1.1 C.1.2.1 C.1.2.2.2.2 in_X0 tyX0 tyX0_ok nmX0 C.1.2.2.2.1 C.2.1 hw.1 hw.2.1 hw.2.2 0 rfl rfl 7 (by decide) (C.1.2.2.2.2 _ q40) (fun _ h9 => h9) rfl (by decide +kernel) rfl rfl (Nat.le_of_ble_eq_true rfl) hdg (fun H1 locs1 hP hD hS => kk H1 locs1 ⟨hP, hD, hS⟩)
theorem gt_get_sl {dep : Int32} {sub : Nat → Int32} {lv : Int32} {siz : Nat → Int32} {ky : Nat → Int32} {va : Nat → Int32} {tot : Int32} {lf : Int32} {sl : Int32} {mk : Nat → Int32} {mv : Nat → Int32} {pk : Nat → Int32} {pv : Nat → Int32} (C : gCx RX0 cc nL rt D d A p s m args meth c) (hw : gSt D A s (gT a d dep sub lv siz ky va tot lf sl mk mv pk pv) H locs) (hdg : decode cc pc = .ok (.getfield 56, 3)) (kk : W p l e R s m args below meth c H locs cells slots Q (F0 m (pc + 3) ls (.int sl :: rest))) : W p l e R s m args below meth c H locs cells slots Q (F0 m pc ls (.ref (a 0) :: rest)) :=
  va_get (D := D) (ci := 0) (v := .int sl) (C := RX0) (T := TX0) (N := 13) C.1.1 C.1.2.1 C.1.2.2.2.2 in_X0 C.1.2.2.2.1 C.2.1 hw.1 0 rfl rfl 8 (by decide) (C.1.2.2.2.2 _ q41) (fun _ h9 => h9) rfl hdg kk
theorem gt_put_sl {dep : Int32} {sub : Nat → Int32} {lv : Int32} {siz : Nat → Int32} {ky : Nat → Int32} {va : Nat → Int32} {tot : Int32} {lf : Int32} {sl : Int32} {mk : Nat → Int32} {mv : Nat → Int32} {pk : Nat → Int32} {pv : Nat → Int32} (C : gCx RX0 cc nL rt D d A p s m args meth c) (hw : gSt D A s (gT a d dep sub lv siz ky va tot lf sl mk mv pk pv) H locs) {x : Int32} (hdg : decode cc pc = .ok (.putfield 56, 3)) (kk : ∀ (H1 : Heap) (locs1 : List Loc), gSt D A s (gT a d dep sub lv siz ky va tot lf x mk mv pk pv) H1 locs1 → W p l e R s m args below meth c H1 locs1 cells slots Q (F0 m (pc + 3) ls rest)) : W p l e R s m args below meth c H locs cells slots Q (F0 m pc ls (.int x :: .ref (a 0) :: rest)) :=
  va_put (D := D) (ci := 0) (v := .int x) (ty := .int) (C := RX0) (T := TX0) (N := 13) C.1.1 C.1.2.1 C.1.2.2.2.2 in_X0 tyX0 tyX0_ok nmX0 C.1.2.2.2.1 C.2.1 hw.1 hw.2.1 hw.2.2 0 rfl rfl 8 (by decide) (C.1.2.2.2.2 _ q41) (fun _ h9 => h9) rfl (by decide +kernel) rfl rfl (Nat.le_of_ble_eq_true rfl) hdg (fun H1 locs1 hP hD hS => kk H1 locs1 ⟨hP, hD, hS⟩)
theorem gt_get_tot {dep : Int32} {sub : Nat → Int32} {lv : Int32} {siz : Nat → Int32} {ky : Nat → Int32} {va : Nat → Int32} {tot : Int32} {lf : Int32} {sl : Int32} {mk : Nat → Int32} {mv : Nat → Int32} {pk : Nat → Int32} {pv : Nat → Int32} (C : gCx RX0 cc nL rt D d A p s m args meth c) (hw : gSt D A s (gT a d dep sub lv siz ky va tot lf sl mk mv pk pv) H locs) (hdg : decode cc pc = .ok (.getfield 80, 3)) (kk : W p l e R s m args below meth c H locs cells slots Q (F0 m (pc + 3) ls (.int tot :: rest))) : W p l e R s m args below meth c H locs cells slots Q (F0 m pc ls (.ref (a 0) :: rest)) :=
  va_get (D := D) (ci := 0) (v := .int tot) (C := RX0) (T := TX0) (N := 13) C.1.1 C.1.2.1 C.1.2.2.2.2 in_X0 C.1.2.2.2.1 C.2.1 hw.1 0 rfl rfl 6 (by decide) (C.1.2.2.2.2 _ q39) (fun _ h9 => h9) rfl hdg kk
theorem gt_put_tot {dep : Int32} {sub : Nat → Int32} {lv : Int32} {siz : Nat → Int32} {ky : Nat → Int32} {va : Nat → Int32} {tot : Int32} {lf : Int32} {sl : Int32} {mk : Nat → Int32} {mv : Nat → Int32} {pk : Nat → Int32} {pv : Nat → Int32} (C : gCx RX0 cc nL rt D d A p s m args meth c) (hw : gSt D A s (gT a d dep sub lv siz ky va tot lf sl mk mv pk pv) H locs) {x : Int32} (hdg : decode cc pc = .ok (.putfield 80, 3)) (kk : ∀ (H1 : Heap) (locs1 : List Loc), gSt D A s (gT a d dep sub lv siz ky va x lf sl mk mv pk pv) H1 locs1 → W p l e R s m args below meth c H1 locs1 cells slots Q (F0 m (pc + 3) ls rest)) : W p l e R s m args below meth c H locs cells slots Q (F0 m pc ls (.int x :: .ref (a 0) :: rest)) :=
  va_put (D := D) (ci := 0) (v := .int x) (ty := .int) (C := RX0) (T := TX0) (N := 13) C.1.1 C.1.2.1 C.1.2.2.2.2 in_X0 tyX0 tyX0_ok nmX0 C.1.2.2.2.1 C.2.1 hw.1 hw.2.1 hw.2.2 0 rfl rfl 6 (by decide) (C.1.2.2.2.2 _ q39) (fun _ h9 => h9) rfl (by decide +kernel) rfl rfl (Nat.le_of_ble_eq_true rfl) hdg (fun H1 locs1 hP hD hS => kk H1 locs1 ⟨hP, hD, hS⟩)
theorem gm_get_li {li : Nat → Int32} {le : Nat → Int32} {vs : Nat → Int32} {nd : Int32} {po : Nat → Int32} {dp : Int32} (C : gCx RX1 cc nL rt D d A p s m args meth c) (hw : gSt D A s (gM a d li le vs nd po dp) H locs) (hdg : decode cc pc = .ok (.getfield 7, 3)) (kk : W p l e R s m args below meth c H locs cells slots Q (F0 m (pc + 3) ls (.ref (a 1) :: rest))) : W p l e R s m args below meth c H locs cells slots Q (F0 m pc ls (.ref (a 0) :: rest)) :=
  va_get (D := D) (ci := 1) (v := .ref (a 1)) (C := RX1) (T := TX1) (N := 6) C.1.1 C.1.2.1 C.1.2.2.2.2 in_X1 C.1.2.2.2.1 C.2.1 hw.1 0 rfl rfl 0 (by decide) (C.1.2.2.2.2 _ q206) (fun _ h9 => h9) rfl hdg kk
theorem gm_ald_li {li : Nat → Int32} {le : Nat → Int32} {vs : Nat → Int32} {nd : Int32} {po : Nat → Int32} {dp : Int32} (C : gCx RX1 cc nL rt D d A p s m args meth c) (hw : gSt D A s (gM a d li le vs nd po dp) H locs) {i : Int32} (hi : vp_in i 180) (hdg : decode cc pc = .ok (.iaload, 1)) (kk : W p l e R s m args below meth c H locs cells slots Q (F0 m (pc + 1) ls (.int (li i.toNatClampNeg) :: rest))) : W p l e R s m args below meth c H locs cells slots Q (F0 m pc ls (.int i :: .ref (a 1) :: rest)) :=
  va_iald C.1.1 C.1.2.1 C.2.1 hw.1 1 0 rfl rfl hi hdg kk
theorem gm_ast_li {li : Nat → Int32} {le : Nat → Int32} {vs : Nat → Int32} {nd : Int32} {po : Nat → Int32} {dp : Int32} (C : gCx RX1 cc nL rt D d A p s m args meth c) (hw : gSt D A s (gM a d li le vs nd po dp) H locs) {i x : Int32} (hi : vp_in i 180) (hdg : decode cc pc = .ok (.iastore, 1)) (kk : ∀ (H1 : Heap) (locs1 : List Loc), gSt D A s (gM a d (upd li i.toNatClampNeg x) le vs nd po dp) H1 locs1 → W p l e R s m args below meth c H1 locs1 cells slots Q (F0 m (pc + 1) ls rest)) : W p l e R s m args below meth c H locs cells slots Q (F0 m pc ls (.int x :: .int i :: .ref (a 1) :: rest)) :=
  va_iast C.1.1 C.1.2.1 C.2.1 hw.1 hw.2.1 hw.2.2 1 0 rfl rfl hi hdg (fun H1 locs1 hP hD hS => kk H1 locs1 ⟨hP, hD, hS⟩)
theorem gm_get_le {li : Nat → Int32} {le : Nat → Int32} {vs : Nat → Int32} {nd : Int32} {po : Nat → Int32} {dp : Int32} (C : gCx RX1 cc nL rt D d A p s m args meth c) (hw : gSt D A s (gM a d li le vs nd po dp) H locs) (hdg : decode cc pc = .ok (.getfield 13, 3)) (kk : W p l e R s m args below meth c H locs cells slots Q (F0 m (pc + 3) ls (.ref (a 2) :: rest))) : W p l e R s m args below meth c H locs cells slots Q (F0 m pc ls (.ref (a 0) :: rest)) :=
  va_get (D := D) (ci := 1) (v := .ref (a 2)) (C := RX1) (T := TX1) (N := 6) C.1.1 C.1.2.1 C.1.2.2.2.2 in_X1 C.1.2.2.2.1 C.2.1 hw.1 0 rfl rfl 1 (by decide) (C.1.2.2.2.2 _ q207) (fun _ h9 => h9) rfl hdg kk
theorem gm_ald_le {li : Nat → Int32} {le : Nat → Int32} {vs : Nat → Int32} {nd : Int32} {po : Nat → Int32} {dp : Int32} (C : gCx RX1 cc nL rt D d A p s m args meth c) (hw : gSt D A s (gM a d li le vs nd po dp) H locs) {i : Int32} (hi : vp_in i 60) (hdg : decode cc pc = .ok (.iaload, 1)) (kk : W p l e R s m args below meth c H locs cells slots Q (F0 m (pc + 1) ls (.int (le i.toNatClampNeg) :: rest))) : W p l e R s m args below meth c H locs cells slots Q (F0 m pc ls (.int i :: .ref (a 2) :: rest)) :=
  va_iald C.1.1 C.1.2.1 C.2.1 hw.1 2 0 rfl rfl hi hdg kk
theorem gm_ast_le {li : Nat → Int32} {le : Nat → Int32} {vs : Nat → Int32} {nd : Int32} {po : Nat → Int32} {dp : Int32} (C : gCx RX1 cc nL rt D d A p s m args meth c) (hw : gSt D A s (gM a d li le vs nd po dp) H locs) {i x : Int32} (hi : vp_in i 60) (hdg : decode cc pc = .ok (.iastore, 1)) (kk : ∀ (H1 : Heap) (locs1 : List Loc), gSt D A s (gM a d li (upd le i.toNatClampNeg x) vs nd po dp) H1 locs1 → W p l e R s m args below meth c H1 locs1 cells slots Q (F0 m (pc + 1) ls rest)) : W p l e R s m args below meth c H locs cells slots Q (F0 m pc ls (.int x :: .int i :: .ref (a 2) :: rest)) :=
  va_iast C.1.1 C.1.2.1 C.2.1 hw.1 hw.2.1 hw.2.2 2 0 rfl rfl hi hdg (fun H1 locs1 hP hD hS => kk H1 locs1 ⟨hP, hD, hS⟩)
theorem gm_get_vs {li : Nat → Int32} {le : Nat → Int32} {vs : Nat → Int32} {nd : Int32} {po : Nat → Int32} {dp : Int32} (C : gCx RX1 cc nL rt D d A p s m args meth c) (hw : gSt D A s (gM a d li le vs nd po dp) H locs) (hdg : decode cc pc = .ok (.getfield 16, 3)) (kk : W p l e R s m args below meth c H locs cells slots Q (F0 m (pc + 3) ls (.ref (a 3) :: rest))) : W p l e R s m args below meth c H locs cells slots Q (F0 m pc ls (.ref (a 0) :: rest)) :=
  va_get (D := D) (ci := 1) (v := .ref (a 3)) (C := RX1) (T := TX1) (N := 6) C.1.1 C.1.2.1 C.1.2.2.2.2 in_X1 C.1.2.2.2.1 C.2.1 hw.1 0 rfl rfl 2 (by decide) (C.1.2.2.2.2 _ q208) (fun _ h9 => h9) rfl hdg kk
theorem gm_ald_vs {li : Nat → Int32} {le : Nat → Int32} {vs : Nat → Int32} {nd : Int32} {po : Nat → Int32} {dp : Int32} (C : gCx RX1 cc nL rt D d A p s m args meth c) (hw : gSt D A s (gM a d li le vs nd po dp) H locs) {i : Int32} (hi : vp_in i 60) (hdg : decode cc pc = .ok (.iaload, 1)) (kk : W p l e R s m args below meth c H locs cells slots Q (F0 m (pc + 1) ls (.int (vs i.toNatClampNeg) :: rest))) : W p l e R s m args below meth c H locs cells slots Q (F0 m pc ls (.int i :: .ref (a 3) :: rest)) :=
  va_iald C.1.1 C.1.2.1 C.2.1 hw.1 3 0 rfl rfl hi hdg kk
theorem gm_ast_vs {li : Nat → Int32} {le : Nat → Int32} {vs : Nat → Int32} {nd : Int32} {po : Nat → Int32} {dp : Int32} (C : gCx RX1 cc nL rt D d A p s m args meth c) (hw : gSt D A s (gM a d li le vs nd po dp) H locs) {i x : Int32} (hi : vp_in i 60) (hdg : decode cc pc = .ok (.iastore, 1)) (kk : ∀ (H1 : Heap) (locs1 : List Loc), gSt D A s (gM a d li le (upd vs i.toNatClampNeg x) nd po dp) H1 locs1 → W p l e R s m args below meth c H1 locs1 cells slots Q (F0 m (pc + 1) ls rest)) : W p l e R s m args below meth c H locs cells slots Q (F0 m pc ls (.int x :: .int i :: .ref (a 3) :: rest)) :=
  va_iast C.1.1 C.1.2.1 C.2.1 hw.1 hw.2.1 hw.2.2 3 0 rfl rfl hi hdg (fun H1 locs1 hP hD hS => kk H1 locs1 ⟨hP, hD, hS⟩)
theorem gm_get_po {li : Nat → Int32} {le : Nat → Int32} {vs : Nat → Int32} {nd : Int32} {po : Nat → Int32} {dp : Int32} (C : gCx RX1 cc nL rt D d A p s m args meth c) (hw : gSt D A s (gM a d li le vs nd po dp) H locs) (hdg : decode cc pc = .ok (.getfield 19, 3)) (kk : W p l e R s m args below meth c H locs cells slots Q (F0 m (pc + 3) ls (.ref (a 4) :: rest))) : W p l e R s m args below meth c H locs cells slots Q (F0 m pc ls (.ref (a 0) :: rest)) :=
  va_get (D := D) (ci := 1) (v := .ref (a 4)) (C := RX1) (T := TX1) (N := 6) C.1.1 C.1.2.1 C.1.2.2.2.2 in_X1 C.1.2.2.2.1 C.2.1 hw.1 0 rfl rfl 4 (by decide) (C.1.2.2.2.2 _ q210) (fun _ h9 => h9) rfl hdg kk
theorem gm_ald_po {li : Nat → Int32} {le : Nat → Int32} {vs : Nat → Int32} {nd : Int32} {po : Nat → Int32} {dp : Int32} (C : gCx RX1 cc nL rt D d A p s m args meth c) (hw : gSt D A s (gM a d li le vs nd po dp) H locs) {i : Int32} (hi : vp_in i 3) (hdg : decode cc pc = .ok (.iaload, 1)) (kk : W p l e R s m args below meth c H locs cells slots Q (F0 m (pc + 1) ls (.int (po i.toNatClampNeg) :: rest))) : W p l e R s m args below meth c H locs cells slots Q (F0 m pc ls (.int i :: .ref (a 4) :: rest)) :=
  va_iald C.1.1 C.1.2.1 C.2.1 hw.1 4 0 rfl rfl hi hdg kk
theorem gm_ast_po {li : Nat → Int32} {le : Nat → Int32} {vs : Nat → Int32} {nd : Int32} {po : Nat → Int32} {dp : Int32} (C : gCx RX1 cc nL rt D d A p s m args meth c) (hw : gSt D A s (gM a d li le vs nd po dp) H locs) {i x : Int32} (hi : vp_in i 3) (hdg : decode cc pc = .ok (.iastore, 1)) (kk : ∀ (H1 : Heap) (locs1 : List Loc), gSt D A s (gM a d li le vs nd (upd po i.toNatClampNeg x) dp) H1 locs1 → W p l e R s m args below meth c H1 locs1 cells slots Q (F0 m (pc + 1) ls rest)) : W p l e R s m args below meth c H locs cells slots Q (F0 m pc ls (.int x :: .int i :: .ref (a 4) :: rest)) :=
  va_iast C.1.1 C.1.2.1 C.2.1 hw.1 hw.2.1 hw.2.2 4 0 rfl rfl hi hdg (fun H1 locs1 hP hD hS => kk H1 locs1 ⟨hP, hD, hS⟩)
theorem gm_get_dp {li : Nat → Int32} {le : Nat → Int32} {vs : Nat → Int32} {nd : Int32} {po : Nat → Int32} {dp : Int32} (C : gCx RX1 cc nL rt D d A p s m args meth c) (hw : gSt D A s (gM a d li le vs nd po dp) H locs) (hdg : decode cc pc = .ok (.getfield 26, 3)) (kk : W p l e R s m args below meth c H locs cells slots Q (F0 m (pc + 3) ls (.int dp :: rest))) : W p l e R s m args below meth c H locs cells slots Q (F0 m pc ls (.ref (a 0) :: rest)) :=
  va_get (D := D) (ci := 1) (v := .int dp) (C := RX1) (T := TX1) (N := 6) C.1.1 C.1.2.1 C.1.2.2.2.2 in_X1 C.1.2.2.2.1 C.2.1 hw.1 0 rfl rfl 5 (by decide) (C.1.2.2.2.2 _ q211) (fun _ h9 => h9) rfl hdg kk
theorem gm_put_dp {li : Nat → Int32} {le : Nat → Int32} {vs : Nat → Int32} {nd : Int32} {po : Nat → Int32} {dp : Int32} (C : gCx RX1 cc nL rt D d A p s m args meth c) (hw : gSt D A s (gM a d li le vs nd po dp) H locs) {x : Int32} (hdg : decode cc pc = .ok (.putfield 26, 3)) (kk : ∀ (H1 : Heap) (locs1 : List Loc), gSt D A s (gM a d li le vs nd po x) H1 locs1 → W p l e R s m args below meth c H1 locs1 cells slots Q (F0 m (pc + 3) ls rest)) : W p l e R s m args below meth c H locs cells slots Q (F0 m pc ls (.int x :: .ref (a 0) :: rest)) :=
  va_put (D := D) (ci := 1) (v := .int x) (ty := .int) (C := RX1) (T := TX1) (N := 6) C.1.1 C.1.2.1 C.1.2.2.2.2 in_X1 tyX1 tyX1_ok nmX1 C.1.2.2.2.1 C.2.1 hw.1 hw.2.1 hw.2.2 0 rfl rfl 5 (by decide) (C.1.2.2.2.2 _ q211) (fun _ h9 => h9) rfl (by decide +kernel) rfl rfl (Nat.le_of_ble_eq_true rfl) hdg (fun H1 locs1 hP hD hS => kk H1 locs1 ⟨hP, hD, hS⟩)
theorem gm_get_nd {li : Nat → Int32} {le : Nat → Int32} {vs : Nat → Int32} {nd : Int32} {po : Nat → Int32} {dp : Int32} (C : gCx RX1 cc nL rt D d A p s m args meth c) (hw : gSt D A s (gM a d li le vs nd po dp) H locs) (hdg : decode cc pc = .ok (.getfield 30, 3)) (kk : W p l e R s m args below meth c H locs cells slots Q (F0 m (pc + 3) ls (.int nd :: rest))) : W p l e R s m args below meth c H locs cells slots Q (F0 m pc ls (.ref (a 0) :: rest)) :=
  va_get (D := D) (ci := 1) (v := .int nd) (C := RX1) (T := TX1) (N := 6) C.1.1 C.1.2.1 C.1.2.2.2.2 in_X1 C.1.2.2.2.1 C.2.1 hw.1 0 rfl rfl 3 (by decide) (C.1.2.2.2.2 _ q209) (fun _ h9 => h9) rfl hdg kk
theorem gm_put_nd {li : Nat → Int32} {le : Nat → Int32} {vs : Nat → Int32} {nd : Int32} {po : Nat → Int32} {dp : Int32} (C : gCx RX1 cc nL rt D d A p s m args meth c) (hw : gSt D A s (gM a d li le vs nd po dp) H locs) {x : Int32} (hdg : decode cc pc = .ok (.putfield 30, 3)) (kk : ∀ (H1 : Heap) (locs1 : List Loc), gSt D A s (gM a d li le vs x po dp) H1 locs1 → W p l e R s m args below meth c H1 locs1 cells slots Q (F0 m (pc + 3) ls rest)) : W p l e R s m args below meth c H locs cells slots Q (F0 m pc ls (.int x :: .ref (a 0) :: rest)) :=
  va_put (D := D) (ci := 1) (v := .int x) (ty := .int) (C := RX1) (T := TX1) (N := 6) C.1.1 C.1.2.1 C.1.2.2.2.2 in_X1 tyX1 tyX1_ok nmX1 C.1.2.2.2.1 C.2.1 hw.1 hw.2.1 hw.2.2 0 rfl rfl 3 (by decide) (C.1.2.2.2.2 _ q209) (fun _ h9 => h9) rfl (by decide +kernel) rfl rfl (Nat.le_of_ble_eq_true rfl) hdg (fun H1 locs1 hP hD hS => kk H1 locs1 ⟨hP, hD, hS⟩)
end FR
end
section
def X0_bad_w  (z1 : Int32) (K : Int32 → Prop) : Prop :=
  ((z1 < (-50) → (K 1)) ∧ (¬ z1 < (-50) → (((z1 ≤ 50 → (K 0)) ∧ (¬ z1 ≤ 50 → (K 1))))))
def X0_down_w (dep : Int32) (sub : Nat → Int32) (z1 : Int32) (K : Int32 → Int32 → (Nat → Int32) → Prop) : Prop :=
  X0_bad_w z1 (fun (r_1 : Int32) => ((r_1 = 0 → (((dep < 3 → (vp_in dep 3 ∧ K (dep + 1) (dep + 1) (upd sub dep.toNatClampNeg (z1 + 51)))) ∧ (¬ dep < 3 → (K (-2) dep sub))))) ∧ (¬ r_1 = 0 → (K (-1) dep sub))))
def X0_up_w (dep : Int32) (K : Int32 → Int32 → Prop) : Prop :=
  ((¬ dep = 0 → (K (dep - 1) (dep - 1))) ∧ (dep = 0 → (K (-3) dep)))
def X0_turn_w (dep : Int32) (sub : Nat → Int32) (z1 : Int32) (K : Int32 → (Nat → Int32) → Prop) : Prop :=
  ((¬ dep = 0 → (X0_bad_w z1 (fun (r_2 : Int32) => ((r_2 = 0 → (vp_in (dep - 1) 3 ∧ vp_in (dep - 1) 3 ∧ K ((sub (dep - 1).toNatClampNeg) - 51) (upd sub (dep - 1).toNatClampNeg (z1 + 51)))) ∧ (¬ r_2 = 0 → (K (-1) sub)))))) ∧ (dep = 0 → (K (-3) sub)))
def X0_unit_w  (z1 : Int32) (K : Int32 → Prop) : Prop :=
  K ((1 : Int32) <<< ((14 - (7 * z1)) &&& 31))
def X0_keyOf_w (sub : Nat → Int32) (z1 : Int32) (K : Int32 → Prop) : Prop :=
  ∃ (I1 : Int32 → Int32 → Prop) (μ1 : Int32 → Int32 → Nat), I1 0 0 ∧ ∀ (x2_1 : Int32) (x3_1 : Int32), I1 x2_1 x3_1 → (((z1 ≤ x3_1 → (K x2_1)) ∧ (¬ z1 ≤ x3_1 → (vp_in x3_1 3 ∧ X0_unit_w x3_1 (fun (r_4 : Int32) => (I1 (x2_1 + ((sub x3_1.toNatClampNeg) * r_4)) (x3_1 + 1) ∧ μ1 (x2_1 + ((sub x3_1.toNatClampNeg) * r_4)) (x3_1 + 1) < μ1 x2_1 x3_1))))))
def X0_seek_w (lv : Int32) (siz : Nat → Int32) (ky : Nat → Int32) (z1 : Int32) (K : Int32 → Int32 → Prop) : Prop :=
  ∃ (I1 : Int32 → Int32 → Prop) (μ1 : Int32 → Int32 → Nat), I1 0 (lv - 1) ∧ ∀ (x2_1 : Int32) (x3_1 : Int32), I1 x2_1 x3_1 → (((x3_1 ≤ x2_1 → (∃ (J3 : Int32 → Prop), (∀ (sl_3 : Int32), J3 sl_3 → (vp_in x2_1 32 ∧ ((¬ sl_3 = (siz x2_1.toNatClampNeg) → (K x2_1 sl_3)) ∧ (sl_3 = (siz x2_1.toNatClampNeg) → (((lv ≤ (x2_1 + 1) → (K x2_1 sl_3)) ∧ (¬ lv ≤ (x2_1 + 1) → (K (x2_1 + 1) 0)))))))) ∧ (∃ (I7 : Int32 → Prop) (μ7 : Int32 → Nat), I7 0 ∧ ∀ (sl_7 : Int32), I7 sl_7 → (vp_in x2_1 32 ∧ (((siz x2_1.toNatClampNeg) ≤ sl_7 → (J3 sl_7)) ∧ (¬ (siz x2_1.toNatClampNeg) ≤ sl_7 → (vp_in ((x2_1 * 8) + sl_7) 256 ∧ ((z1 ≤ (ky ((x2_1 * 8) + sl_7).toNatClampNeg) → (J3 sl_7)) ∧ (¬ z1 ≤ (ky ((x2_1 * 8) + sl_7).toNatClampNeg) → ((I7 (sl_7 + 1) ∧ μ7 (sl_7 + 1) < μ7 sl_7))))))))))) ∧ (¬ x3_1 ≤ x2_1 → (vp_in ((((x2_1 + x3_1) + 1) / 2) * 8) 256 ∧ ((z1 < (ky ((((x2_1 + x3_1) + 1) / 2) * 8).toNatClampNeg) → ((I1 x2_1 ((((x2_1 + x3_1) + 1) / 2) - 1) ∧ μ1 x2_1 ((((x2_1 + x3_1) + 1) / 2) - 1) < μ1 x2_1 x3_1))) ∧ (¬ z1 < (ky ((((x2_1 + x3_1) + 1) / 2) * 8).toNatClampNeg) → ((I1 (((x2_1 + x3_1) + 1) / 2) x3_1 ∧ μ1 (((x2_1 + x3_1) + 1) / 2) x3_1 < μ1 x2_1 x3_1))))))))
def X0_found_w (siz : Nat → Int32) (ky : Nat → Int32) (lf : Int32) (sl : Int32) (K : Int32 → Prop) : Prop :=
  vp_in lf 32 ∧ (((siz lf.toNatClampNeg) ≤ sl → (K 2097152)) ∧ (¬ (siz lf.toNatClampNeg) ≤ sl → (vp_in ((lf * 8) + sl) 256 ∧ K (ky ((lf * 8) + sl).toNatClampNeg))))
def X0_present_w (lv : Int32) (siz : Nat → Int32) (ky : Nat → Int32) (z1 : Int32) (K : Int32 → Int32 → Int32 → Prop) : Prop :=
  X0_seek_w lv siz ky z1 (fun (lf_1 : Int32) (sl_1 : Int32) => X0_found_w siz ky lf_1 sl_1 (fun (r_2 : Int32) => ((¬ r_2 = z1 → (K 0 lf_1 sl_1)) ∧ (r_2 = z1 → (K 1 lf_1 sl_1)))))
def X0_repack_w (lv : Int32) (siz : Nat → Int32) (ky : Nat → Int32) (va : Nat → Int32) (pk : Nat → Int32) (pv : Nat → Int32) (K : Int32 → (Nat → Int32) → (Nat → Int32) → (Nat → Int32) → (Nat → Int32) → (Nat → Int32) → Prop) : Prop :=
  ∃ (I1 : Int32 → Int32 → (Nat → Int32) → (Nat → Int32) → Prop) (μ1 : Int32 → Int32 → (Nat → Int32) → (Nat → Int32) → Nat), I1 0 0 pk pv ∧ ∀ (x1_1 : Int32) (x2_1 : Int32) (pk_1 : Nat → Int32) (pv_1 : Nat → Int32), I1 x1_1 x2_1 pk_1 pv_1 → (((lv ≤ x2_1 → (∃ (J3 : Int32 → Prop), (∀ (lv_3 : Int32), J3 lv_3 → (∃ (I4 : Int32 → (Nat → Int32) → Prop) (μ4 : Int32 → (Nat → Int32) → Nat), I4 0 siz ∧ ∀ (x2_4 : Int32) (siz_4 : Nat → Int32), I4 x2_4 siz_4 → (((lv_3 ≤ x2_4 → (∃ (I6 : Int32 → (Nat → Int32) → (Nat → Int32) → (Nat → Int32) → Prop) (μ6 : Int32 → (Nat → Int32) → (Nat → Int32) → (Nat → Int32) → Nat), I6 0 siz_4 ky va ∧ ∀ (x2_6 : Int32) (siz_6 : Nat → Int32) (ky_6 : Nat → Int32) (va_6 : Nat → Int32), I6 x2_6 siz_6 ky_6 va_6 → (((x1_1 ≤ x2_6 → (K lv_3 siz_6 ky_6 va_6 pk_1 pv_1)) ∧ (¬ x1_1 ≤ x2_6 → (vp_in x2_6 60 ∧ vp_in (((x2_6 / 6) * 8) + (x2_6 - x2_6 / 6 * 6)) 256 ∧ vp_in x2_6 60 ∧ vp_in (((x2_6 / 6) * 8) + (x2_6 - x2_6 / 6 * 6)) 256 ∧ vp_in (x2_6 / 6) 32 ∧ vp_in (x2_6 / 6) 32 ∧ (I6 (x2_6 + 1) (upd siz_6 (x2_6 / 6).toNatClampNeg ((siz_6 (x2_6 / 6).toNatClampNeg) + 1)) (upd ky_6 (((x2_6 / 6) * 8) + (x2_6 - x2_6 / 6 * 6)).toNatClampNeg (pk_1 x2_6.toNatClampNeg)) (upd va_6 (((x2_6 / 6) * 8) + (x2_6 - x2_6 / 6 * 6)).toNatClampNeg (pv_1 x2_6.toNatClampNeg)) ∧ μ6 (x2_6 + 1) (upd siz_6 (x2_6 / 6).toNatClampNeg ((siz_6 (x2_6 / 6).toNatClampNeg) + 1)) (upd ky_6 (((x2_6 / 6) * 8) + (x2_6 - x2_6 / 6 * 6)).toNatClampNeg (pk_1 x2_6.toNatClampNeg)) (upd va_6 (((x2_6 / 6) * 8) + (x2_6 - x2_6 / 6 * 6)).toNatClampNeg (pv_1 x2_6.toNatClampNeg)) < μ6 x2_6 siz_6 ky_6 va_6))))))) ∧ (¬ lv_3 ≤ x2_4 → (vp_in x2_4 32 ∧ (I4 (x2_4 + 1) (upd siz_4 x2_4.toNatClampNeg 0) ∧ μ4 (x2_4 + 1) (upd siz_4 x2_4.toNatClampNeg 0) < μ4 x2_4 siz_4))))))) ∧ (((¬ x1_1 = 0 → (J3 ((x1_1 + 5) / 6))) ∧ (x1_1 = 0 → (J3 1)))))) ∧ (¬ lv ≤ x2_1 → (∃ (I16 : Int32 → Int32 → (Nat → Int32) → (Nat → Int32) → Prop) (μ16 : Int32 → Int32 → (Nat → Int32) → (Nat → Int32) → Nat), I16 x1_1 0 pk_1 pv_1 ∧ ∀ (x1_16 : Int32) (x3_16 : Int32) (pk_16 : Nat → Int32) (pv_16 : Nat → Int32), I16 x1_16 x3_16 pk_16 pv_16 → (vp_in x2_1 32 ∧ (((siz x2_1.toNatClampNeg) ≤ x3_16 → ((I1 x1_16 (x2_1 + 1) pk_16 pv_16 ∧ μ1 x1_16 (x2_1 + 1) pk_16 pv_16 < μ1 x1_1 x2_1 pk_1 pv_1))) ∧ (¬ (siz x2_1.toNatClampNeg) ≤ x3_16 → (vp_in ((x2_1 * 8) + x3_16) 256 ∧ vp_in x1_16 60 ∧ vp_in ((x2_1 * 8) + x3_16) 256 ∧ vp_in x1_16 60 ∧ (I16 (x1_16 + 1) (x3_16 + 1) (upd pk_16 x1_16.toNatClampNeg (ky ((x2_1 * 8) + x3_16).toNatClampNeg)) (upd pv_16 x1_16.toNatClampNeg (va ((x2_1 * 8) + x3_16).toNatClampNeg)) ∧ μ16 (x1_16 + 1) (x3_16 + 1) (upd pk_16 x1_16.toNatClampNeg (ky ((x2_1 * 8) + x3_16).toNatClampNeg)) (upd pv_16 x1_16.toNatClampNeg (va ((x2_1 * 8) + x3_16).toNatClampNeg)) < μ16 x1_16 x3_16 pk_16 pv_16)))))))))
def X0_copyLeaf_w (siz : Nat → Int32) (ky : Nat → Int32) (va : Nat → Int32) (z1 : Int32) (z2 : Int32) (K : (Nat → Int32) → (Nat → Int32) → (Nat → Int32) → Prop) : Prop :=
  vp_in z1 32 ∧ vp_in z2 32 ∧ ∃ (I3 : Int32 → (Nat → Int32) → (Nat → Int32) → Prop) (μ3 : Int32 → (Nat → Int32) → (Nat → Int32) → Nat), I3 0 ky va ∧ ∀ (x3_3 : Int32) (ky_3 : Nat → Int32) (va_3 : Nat → Int32), I3 x3_3 ky_3 va_3 → (((8 ≤ x3_3 → (K (upd siz z2.toNatClampNeg (siz z1.toNatClampNeg)) ky_3 va_3)) ∧ (¬ 8 ≤ x3_3 → (vp_in ((z1 * 8) + x3_3) 256 ∧ vp_in ((z2 * 8) + x3_3) 256 ∧ vp_in ((z1 * 8) + x3_3) 256 ∧ vp_in ((z2 * 8) + x3_3) 256 ∧ (I3 (x3_3 + 1) (upd ky_3 ((z2 * 8) + x3_3).toNatClampNeg (ky_3 ((z1 * 8) + x3_3).toNatClampNeg)) (upd va_3 ((z2 * 8) + x3_3).toNatClampNeg (va_3 ((z1 * 8) + x3_3).toNatClampNeg)) ∧ μ3 (x3_3 + 1) (upd ky_3 ((z2 * 8) + x3_3).toNatClampNeg (ky_3 ((z1 * 8) + x3_3).toNatClampNeg)) (upd va_3 ((z2 * 8) + x3_3).toNatClampNeg (va_3 ((z1 * 8) + x3_3).toNatClampNeg)) < μ3 x3_3 ky_3 va_3)))))
def X0_splitLeaf_w (lv : Int32) (siz : Nat → Int32) (ky : Nat → Int32) (va : Nat → Int32) (z1 : Int32) (K : Int32 → (Nat → Int32) → (Nat → Int32) → (Nat → Int32) → Prop) : Prop :=
  ∃ (I1 : Int32 → (Nat → Int32) → (Nat → Int32) → (Nat → Int32) → Prop) (μ1 : Int32 → (Nat → Int32) → (Nat → Int32) → (Nat → Int32) → Nat), I1 lv siz ky va ∧ ∀ (x2_1 : Int32) (siz_1 : Nat → Int32) (ky_1 : Nat → Int32) (va_1 : Nat → Int32), I1 x2_1 siz_1 ky_1 va_1 → (((x2_1 ≤ (z1 + 1) → (X0_copyLeaf_w siz_1 ky_1 va_1 z1 (z1 + 1) (fun (siz_3 : Nat → Int32) (ky_3 : Nat → Int32) (va_3 : Nat → Int32) => vp_in z1 32 ∧ vp_in (z1 + 1) 32 ∧ ∃ (I6 : Int32 → (Nat → Int32) → (Nat → Int32) → Prop) (μ6 : Int32 → (Nat → Int32) → (Nat → Int32) → Nat), I6 0 ky_3 va_3 ∧ ∀ (x2_6 : Int32) (ky_6 : Nat → Int32) (va_6 : Nat → Int32), I6 x2_6 ky_6 va_6 → (((4 ≤ x2_6 → (K (lv + 1) (upd (upd siz_3 z1.toNatClampNeg 4) (z1 + 1).toNatClampNeg 4) ky_6 va_6)) ∧ (¬ 4 ≤ x2_6 → (vp_in (((z1 * 8) + x2_6) + 4) 256 ∧ vp_in (((z1 + 1) * 8) + x2_6) 256 ∧ vp_in (((z1 * 8) + x2_6) + 4) 256 ∧ vp_in (((z1 + 1) * 8) + x2_6) 256 ∧ (I6 (x2_6 + 1) (upd ky_6 (((z1 + 1) * 8) + x2_6).toNatClampNeg (ky_6 (((z1 * 8) + x2_6) + 4).toNatClampNeg)) (upd va_6 (((z1 + 1) * 8) + x2_6).toNatClampNeg (va_6 (((z1 * 8) + x2_6) + 4).toNatClampNeg)) ∧ μ6 (x2_6 + 1) (upd ky_6 (((z1 + 1) * 8) + x2_6).toNatClampNeg (ky_6 (((z1 * 8) + x2_6) + 4).toNatClampNeg)) (upd va_6 (((z1 + 1) * 8) + x2_6).toNatClampNeg (va_6 (((z1 * 8) + x2_6) + 4).toNatClampNeg)) < μ6 x2_6 ky_6 va_6)))))))) ∧ (¬ x2_1 ≤ (z1 + 1) → (X0_copyLeaf_w siz_1 ky_1 va_1 (x2_1 - 1) x2_1 (fun (siz_12 : Nat → Int32) (ky_12 : Nat → Int32) (va_12 : Nat → Int32) => (I1 (x2_1 + (-1)) siz_12 ky_12 va_12 ∧ μ1 (x2_1 + (-1)) siz_12 ky_12 va_12 < μ1 x2_1 siz_1 ky_1 va_1))))))
def X0_seekRoom_w (lv : Int32) (siz : Nat → Int32) (ky : Nat → Int32) (va : Nat → Int32) (pk : Nat → Int32) (pv : Nat → Int32) (z1 : Int32) (K : Int32 → (Nat → Int32) → (Nat → Int32) → (Nat → Int32) → Int32 → Int32 → (Nat → Int32) → (Nat → Int32) → Prop) : Prop :=
  ∃ (J1 : Int32 → (Nat → Int32) → (Nat → Int32) → (Nat → Int32) → (Nat → Int32) → (Nat → Int32) → Prop), (∀ (lv_1 : Int32) (siz_1 : Nat → Int32) (ky_1 : Nat → Int32) (va_1 : Nat → Int32) (pk_1 : Nat → Int32) (pv_1 : Nat → Int32), J1 lv_1 siz_1 ky_1 va_1 pk_1 pv_1 → (X0_seek_w lv_1 siz_1 ky_1 z1 (fun (lf_2 : Int32) (sl_2 : Int32) => ∃ (J3 : Int32 → Int32 → Prop), (∀ (lf_3 : Int32) (sl_3 : Int32), J3 lf_3 sl_3 → (vp_in lf_3 32 ∧ ((8 ≤ (siz_1 lf_3.toNatClampNeg) → (X0_splitLeaf_w lv_1 siz_1 ky_1 va_1 lf_3 (fun (lv_6 : Int32) (siz_6 : Nat → Int32) (ky_6 : Nat → Int32) (va_6 : Nat → Int32) => ((sl_3 ≤ 4 → (K lv_6 siz_6 ky_6 va_6 lf_3 sl_3 pk_1 pv_1)) ∧ (¬ sl_3 ≤ 4 → (K lv_6 siz_6 ky_6 va_6 (lf_3 + 1) (sl_3 - 4) pk_1 pv_1)))))) ∧ (¬ 8 ≤ (siz_1 lf_3.toNatClampNeg) → (K lv_1 siz_1 ky_1 va_1 lf_3 sl_3 pk_1 pv_1))))) ∧ (((¬ sl_2 = 0 → (J3 lf_2 sl_2)) ∧ (sl_2 = 0 → (((lf_2 ≤ 0 → (J3 lf_2 sl_2)) ∧ (¬ lf_2 ≤ 0 → (vp_in (lf_2 - 1) 32 ∧ J3 (lf_2 - 1) (siz_1 (lf_2 - 1).toNatClampNeg))))))))))) ∧ (((lv < 32 → (J1 lv siz ky va pk pv)) ∧ (¬ lv < 32 → (X0_repack_w lv siz ky va pk pv (fun (lv_12 : Int32) (siz_12 : Nat → Int32) (ky_12 : Nat → Int32) (va_12 : Nat → Int32) (pk_12 : Nat → Int32) (pv_12 : Nat → Int32) => J1 lv_12 siz_12 ky_12 va_12 pk_12 pv_12)))))
def X0_insert_w (lv : Int32) (siz : Nat → Int32) (ky : Nat → Int32) (va : Nat → Int32) (tot : Int32) (pk : Nat → Int32) (pv : Nat → Int32) (z1 : Int32) (z2 : Int32) (K : Int32 → (Nat → Int32) → (Nat → Int32) → (Nat → Int32) → Int32 → Int32 → Int32 → (Nat → Int32) → (Nat → Int32) → Prop) : Prop :=
  X0_seekRoom_w lv siz ky va pk pv z1 (fun (lv_1 : Int32) (siz_1 : Nat → Int32) (ky_1 : Nat → Int32) (va_1 : Nat → Int32) (lf_1 : Int32) (sl_1 : Int32) (pk_1 : Nat → Int32) (pv_1 : Nat → Int32) => vp_in lf_1 32 ∧ ∃ (I3 : Int32 → (Nat → Int32) → (Nat → Int32) → Prop) (μ3 : Int32 → (Nat → Int32) → (Nat → Int32) → Nat), I3 (siz_1 lf_1.toNatClampNeg) ky_1 va_1 ∧ ∀ (x3_3 : Int32) (ky_3 : Nat → Int32) (va_3 : Nat → Int32), I3 x3_3 ky_3 va_3 → (((x3_3 ≤ sl_1 → (vp_in ((lf_1 * 8) + sl_1) 256 ∧ vp_in ((lf_1 * 8) + sl_1) 256 ∧ vp_in lf_1 32 ∧ vp_in lf_1 32 ∧ K lv_1 (upd siz_1 lf_1.toNatClampNeg ((siz_1 lf_1.toNatClampNeg) + 1)) (upd ky_3 ((lf_1 * 8) + sl_1).toNatClampNeg z1) (upd va_3 ((lf_1 * 8) + sl_1).toNatClampNeg z2) (tot + 1) lf_1 sl_1 pk_1 pv_1)) ∧ (¬ x3_3 ≤ sl_1 → (vp_in (((lf_1 * 8) + x3_3) - 1) 256 ∧ vp_in ((lf_1 * 8) + x3_3) 256 ∧ vp_in (((lf_1 * 8) + x3_3) - 1) 256 ∧ vp_in ((lf_1 * 8) + x3_3) 256 ∧ (I3 (x3_3 + (-1)) (upd ky_3 ((lf_1 * 8) + x3_3).toNatClampNeg (ky_3 (((lf_1 * 8) + x3_3) - 1).toNatClampNeg)) (upd va_3 ((lf_1 * 8) + x3_3).toNatClampNeg (va_3 (((lf_1 * 8) + x3_3) - 1).toNatClampNeg)) ∧ μ3 (x3_3 + (-1)) (upd ky_3 ((lf_1 * 8) + x3_3).toNatClampNeg (ky_3 (((lf_1 * 8) + x3_3) - 1).toNatClampNeg)) (upd va_3 ((lf_1 * 8) + x3_3).toNatClampNeg (va_3 (((lf_1 * 8) + x3_3) - 1).toNatClampNeg)) < μ3 x3_3 ky_3 va_3))))))
def X0_put_w (lv : Int32) (siz : Nat → Int32) (ky : Nat → Int32) (va : Nat → Int32) (tot : Int32) (pk : Nat → Int32) (pv : Nat → Int32) (z1 : Int32) (z2 : Int32) (K : Int32 → (Nat → Int32) → (Nat → Int32) → (Nat → Int32) → Int32 → Int32 → Int32 → (Nat → Int32) → (Nat → Int32) → Prop) : Prop :=
  X0_present_w lv siz ky z1 (fun (r_1 : Int32) (lf_1 : Int32) (sl_1 : Int32) => ((r_1 = 0 → (X0_insert_w lv siz ky va tot pk pv z1 z2 (fun (lv_3 : Int32) (siz_3 : Nat → Int32) (ky_3 : Nat → Int32) (va_3 : Nat → Int32) (tot_3 : Int32) (lf_3 : Int32) (sl_3 : Int32) (pk_3 : Nat → Int32) (pv_3 : Nat → Int32) => K lv_3 siz_3 ky_3 va_3 tot_3 lf_3 sl_3 pk_3 pv_3))) ∧ (¬ r_1 = 0 → (vp_in ((lf_1 * 8) + sl_1) 256 ∧ K lv siz ky (upd va ((lf_1 * 8) + sl_1).toNatClampNeg z2) tot lf_1 sl_1 pk pv))))
def X0_set_w (dep : Int32) (sub : Nat → Int32) (lv : Int32) (siz : Nat → Int32) (ky : Nat → Int32) (va : Nat → Int32) (tot : Int32) (lf : Int32) (sl : Int32) (pk : Nat → Int32) (pv : Nat → Int32) (z1 : Int32) (K : Int32 → Int32 → (Nat → Int32) → (Nat → Int32) → (Nat → Int32) → Int32 → Int32 → Int32 → (Nat → Int32) → (Nat → Int32) → Prop) : Prop :=
  ((¬ dep = 0 → (X0_keyOf_w sub dep (fun (r_2 : Int32) => X0_present_w lv siz ky r_2 (fun (r_3 : Int32) (lf_3 : Int32) (sl_3 : Int32) => ∃ (J4 : Prop), (J4  → (X0_put_w lv siz ky va tot pk pv r_2 z1 (fun (lv_5 : Int32) (siz_5 : Nat → Int32) (ky_5 : Nat → Int32) (va_5 : Nat → Int32) (tot_5 : Int32) (lf_5 : Int32) (sl_5 : Int32) (pk_5 : Nat → Int32) (pv_5 : Nat → Int32) => ((r_3 = 0 → (K 0 lv_5 siz_5 ky_5 va_5 tot_5 lf_5 sl_5 pk_5 pv_5)) ∧ (¬ r_3 = 0 → (K 1 lv_5 siz_5 ky_5 va_5 tot_5 lf_5 sl_5 pk_5 pv_5)))))) ∧ (((¬ r_3 = 0 → (J4)) ∧ (r_3 = 0 → (((tot < 60 → (J4)) ∧ (¬ tot < 60 → (K (-2) lv siz ky va tot lf_3 sl_3 pk pv))))))))))) ∧ (dep = 0 → (K (-3) lv siz ky va tot lf sl pk pv)))
def X0_increment_w (dep : Int32) (sub : Nat → Int32) (lv : Int32) (siz : Nat → Int32) (ky : Nat → Int32) (va : Nat → Int32) (tot : Int32) (lf : Int32) (sl : Int32) (pk : Nat → Int32) (pv : Nat → Int32) (z1 : Int32) (K : Int32 → Int32 → (Nat → Int32) → (Nat → Int32) → (Nat → Int32) → Int32 → Int32 → Int32 → (Nat → Int32) → (Nat → Int32) → Prop) : Prop :=
  ((¬ dep = 0 → (X0_keyOf_w sub dep (fun (r_2 : Int32) => X0_present_w lv siz ky r_2 (fun (r_3 : Int32) (lf_3 : Int32) (sl_3 : Int32) => ∃ (J4 : Prop), (J4  → (((r_3 = 0 → (X0_put_w lv siz ky va tot pk pv r_2 z1 (fun (lv_6 : Int32) (siz_6 : Nat → Int32) (ky_6 : Nat → Int32) (va_6 : Nat → Int32) (tot_6 : Int32) (lf_6 : Int32) (sl_6 : Int32) (pk_6 : Nat → Int32) (pv_6 : Nat → Int32) => K z1 lv_6 siz_6 ky_6 va_6 tot_6 lf_6 sl_6 pk_6 pv_6))) ∧ (¬ r_3 = 0 → (vp_in ((lf_3 * 8) + sl_3) 256 ∧ X0_put_w lv siz ky va tot pk pv r_2 ((va ((lf_3 * 8) + sl_3).toNatClampNeg) + z1) (fun (lv_8 : Int32) (siz_8 : Nat → Int32) (ky_8 : Nat → Int32) (va_8 : Nat → Int32) (tot_8 : Int32) (lf_8 : Int32) (sl_8 : Int32) (pk_8 : Nat → Int32) (pv_8 : Nat → Int32) => K ((va ((lf_3 * 8) + sl_3).toNatClampNeg) + z1) lv_8 siz_8 ky_8 va_8 tot_8 lf_8 sl_8 pk_8 pv_8)))))) ∧ (((¬ r_3 = 0 → (J4)) ∧ (r_3 = 0 → (((tot < 60 → (J4)) ∧ (¬ tot < 60 → (K (-2) lv siz ky va tot lf_3 sl_3 pk pv))))))))))) ∧ (dep = 0 → (K (-3) lv siz ky va tot lf sl pk pv)))
def X0_endOf_w (sub : Nat → Int32) (z1 : Int32) (K : Int32 → Prop) : Prop :=
  ((¬ z1 = 0 → (X0_keyOf_w sub z1 (fun (r_2 : Int32) => X0_unit_w (z1 - 1) (fun (r_3 : Int32) => K (r_2 + r_3))))) ∧ (z1 = 0 → (K 2097152)))
def X0_removeFound_w (lv : Int32) (siz : Nat → Int32) (ky : Nat → Int32) (va : Nat → Int32) (tot : Int32) (lf : Int32) (sl : Int32) (K : Int32 → (Nat → Int32) → (Nat → Int32) → (Nat → Int32) → Int32 → Prop) : Prop :=
  vp_in lf 32 ∧ vp_in lf 32 ∧ ∃ (I3 : Int32 → (Nat → Int32) → (Nat → Int32) → Prop) (μ3 : Int32 → (Nat → Int32) → (Nat → Int32) → Nat), I3 sl ky va ∧ ∀ (x1_3 : Int32) (ky_3 : Nat → Int32) (va_3 : Nat → Int32), I3 x1_3 ky_3 va_3 → (vp_in lf 32 ∧ ((((upd siz lf.toNatClampNeg ((siz lf.toNatClampNeg) - 1)) lf.toNatClampNeg) ≤ x1_3 → (vp_in lf 32 ∧ ((0 < ((upd siz lf.toNatClampNeg ((siz lf.toNatClampNeg) - 1)) lf.toNatClampNeg) → (K lv (upd siz lf.toNatClampNeg ((siz lf.toNatClampNeg) - 1)) ky_3 va_3 (tot - 1))) ∧ (¬ 0 < ((upd siz lf.toNatClampNeg ((siz lf.toNatClampNeg) - 1)) lf.toNatClampNeg) → (((¬ lv = 1 → (∃ (I9 : Int32 → (Nat → Int32) → (Nat → Int32) → (Nat → Int32) → Prop) (μ9 : Int32 → (Nat → Int32) → (Nat → Int32) → (Nat → Int32) → Nat), I9 lf (upd siz lf.toNatClampNeg ((siz lf.toNatClampNeg) - 1)) ky_3 va_3 ∧ ∀ (x1_9 : Int32) (siz_9 : Nat → Int32) (ky_9 : Nat → Int32) (va_9 : Nat → Int32), I9 x1_9 siz_9 ky_9 va_9 → (((lv ≤ (x1_9 + 1) → (K (lv - 1) siz_9 ky_9 va_9 (tot - 1))) ∧ (¬ lv ≤ (x1_9 + 1) → (X0_copyLeaf_w siz_9 ky_9 va_9 (x1_9 + 1) x1_9 (fun (siz_11 : Nat → Int32) (ky_11 : Nat → Int32) (va_11 : Nat → Int32) => (I9 (x1_9 + 1) siz_11 ky_11 va_11 ∧ μ9 (x1_9 + 1) siz_11 ky_11 va_11 < μ9 x1_9 siz_9 ky_9 va_9)))))))) ∧ (lv = 1 → (K lv (upd siz lf.toNatClampNeg ((siz lf.toNatClampNeg) - 1)) ky_3 va_3 (tot - 1))))))))) ∧ (¬ ((upd siz lf.toNatClampNeg ((siz lf.toNatClampNeg) - 1)) lf.toNatClampNeg) ≤ x1_3 → (vp_in (((lf * 8) + x1_3) + 1) 256 ∧ vp_in ((lf * 8) + x1_3) 256 ∧ vp_in (((lf * 8) + x1_3) + 1) 256 ∧ vp_in ((lf * 8) + x1_3) 256 ∧ (I3 (x1_3 + 1) (upd ky_3 ((lf * 8) + x1_3).toNatClampNeg (ky_3 (((lf * 8) + x1_3) + 1).toNatClampNeg)) (upd va_3 ((lf * 8) + x1_3).toNatClampNeg (va_3 (((lf * 8) + x1_3) + 1).toNatClampNeg)) ∧ μ3 (x1_3 + 1) (upd ky_3 ((lf * 8) + x1_3).toNatClampNeg (ky_3 (((lf * 8) + x1_3) + 1).toNatClampNeg)) (upd va_3 ((lf * 8) + x1_3).toNatClampNeg (va_3 (((lf * 8) + x1_3) + 1).toNatClampNeg)) < μ3 x1_3 ky_3 va_3)))))
def X0_kill_w (dep : Int32) (sub : Nat → Int32) (lv : Int32) (siz : Nat → Int32) (ky : Nat → Int32) (va : Nat → Int32) (tot : Int32) (K : Int32 → Int32 → (Nat → Int32) → (Nat → Int32) → (Nat → Int32) → Int32 → Int32 → Int32 → Prop) : Prop :=
  X0_keyOf_w sub dep (fun (r_1 : Int32) => X0_endOf_w sub dep (fun (r_2 : Int32) => X0_seek_w lv siz ky r_1 (fun (lf_3 : Int32) (sl_3 : Int32) => ∃ (I4 : Int32 → Int32 → Int32 → (Nat → Int32) → (Nat → Int32) → (Nat → Int32) → Int32 → Int32 → Int32 → Prop) (μ4 : Int32 → Int32 → Int32 → (Nat → Int32) → (Nat → Int32) → (Nat → Int32) → Int32 → Int32 → Int32 → Nat), I4 0 0 lv siz ky va tot lf_3 sl_3 ∧ ∀ (x3_4 : Int32) (x4_4 : Int32) (lv_4 : Int32) (siz_4 : Nat → Int32) (ky_4 : Nat → Int32) (va_4 : Nat → Int32) (tot_4 : Int32) (lf_4 : Int32) (sl_4 : Int32), I4 x3_4 x4_4 lv_4 siz_4 ky_4 va_4 tot_4 lf_4 sl_4 → (((60 ≤ x4_4 → (K x3_4 lv_4 siz_4 ky_4 va_4 tot_4 lf_4 sl_4)) ∧ (¬ 60 ≤ x4_4 → (X0_found_w siz_4 ky_4 lf_4 sl_4 (fun (r_6 : Int32) => ((r_2 ≤ r_6 → (K x3_4 lv_4 siz_4 ky_4 va_4 tot_4 lf_4 sl_4)) ∧ (¬ r_2 ≤ r_6 → (X0_removeFound_w lv_4 siz_4 ky_4 va_4 tot_4 lf_4 sl_4 (fun (lv_8 : Int32) (siz_8 : Nat → Int32) (ky_8 : Nat → Int32) (va_8 : Nat → Int32) (tot_8 : Int32) => X0_seek_w lv_8 siz_8 ky_8 r_1 (fun (lf_9 : Int32) (sl_9 : Int32) => (I4 (x3_4 + 1) (x4_4 + 1) lv_8 siz_8 ky_8 va_8 tot_8 lf_9 sl_9 ∧ μ4 (x3_4 + 1) (x4_4 + 1) lv_8 siz_8 ky_8 va_8 tot_8 lf_9 sl_9 < μ4 x3_4 x4_4 lv_4 siz_4 ky_4 va_4 tot_4 lf_4 sl_4))))))))))))))
def X0_merge_w (dep : Int32) (sub : Nat → Int32) (lv : Int32) (siz : Nat → Int32) (ky : Nat → Int32) (va : Nat → Int32) (tot : Int32) (lf : Int32) (sl : Int32) (mk : Nat → Int32) (mv : Nat → Int32) (pk : Nat → Int32) (pv : Nat → Int32) (z1 : Int32) (K : Int32 → Int32 → (Nat → Int32) → (Nat → Int32) → (Nat → Int32) → Int32 → Int32 → Int32 → (Nat → Int32) → (Nat → Int32) → (Nat → Int32) → (Nat → Int32) → Prop) : Prop :=
  ((¬ dep = 0 → (X0_bad_w z1 (fun (r_2 : Int32) => ((r_2 = 0 → (X0_keyOf_w sub dep (fun (r_4 : Int32) => X0_endOf_w sub dep (fun (r_5 : Int32) => vp_in (dep - 1) 3 ∧ X0_unit_w (dep - 1) (fun (r_7 : Int32) => X0_seek_w lv siz ky r_4 (fun (lf_8 : Int32) (sl_8 : Int32) => ∃ (J9 : Int32 → Int32 → Int32 → (Nat → Int32) → (Nat → Int32) → Prop), (∀ (x5_9 : Int32) (lf_9 : Int32) (sl_9 : Int32) (mk_9 : Nat → Int32) (mv_9 : Nat → Int32), J9 x5_9 lf_9 sl_9 mk_9 mv_9 → (∃ (I10 : Int32 → Int32 → Int32 → Int32 → Prop) (μ10 : Int32 → Int32 → Int32 → Int32 → Nat), I10 0 0 lf_9 sl_9 ∧ ∀ (x6_10 : Int32) (x7_10 : Int32) (lf_10 : Int32) (sl_10 : Int32), I10 x6_10 x7_10 lf_10 sl_10 → (((x5_9 ≤ x7_10 → ((((tot + x6_10) ≤ 60 → (∃ (I13 : Int32 → Int32 → (Nat → Int32) → (Nat → Int32) → (Nat → Int32) → Int32 → Int32 → Int32 → (Nat → Int32) → (Nat → Int32) → Prop) (μ13 : Int32 → Int32 → (Nat → Int32) → (Nat → Int32) → (Nat → Int32) → Int32 → Int32 → Int32 → (Nat → Int32) → (Nat → Int32) → Nat), I13 0 lv siz ky va tot lf_10 sl_10 pk pv ∧ ∀ (x7_13 : Int32) (lv_13 : Int32) (siz_13 : Nat → Int32) (ky_13 : Nat → Int32) (va_13 : Nat → Int32) (tot_13 : Int32) (lf_13 : Int32) (sl_13 : Int32) (pk_13 : Nat → Int32) (pv_13 : Nat → Int32), I13 x7_13 lv_13 siz_13 ky_13 va_13 tot_13 lf_13 sl_13 pk_13 pv_13 → (((x5_9 ≤ x7_13 → (K x5_9 lv_13 siz_13 ky_13 va_13 tot_13 lf_13 sl_13 mk_9 mv_9 pk_13 pv_13)) ∧ (¬ x5_9 ≤ x7_13 → (vp_in x7_13 60 ∧ vp_in x7_13 60 ∧ X0_put_w lv_13 siz_13 ky_13 va_13 tot_13 pk_13 pv_13 ((mk_9 x7_13.toNatClampNeg) + (((z1 + 51) - (sub (dep - 1).toNatClampNeg)) * r_7)) (mv_9 x7_13.toNatClampNeg) (fun (lv_17 : Int32) (siz_17 : Nat → Int32) (ky_17 : Nat → Int32) (va_17 : Nat → Int32) (tot_17 : Int32) (lf_17 : Int32) (sl_17 : Int32) (pk_17 : Nat → Int32) (pv_17 : Nat → Int32) => (I13 (x7_13 + 1) lv_17 siz_17 ky_17 va_17 tot_17 lf_17 sl_17 pk_17 pv_17 ∧ μ13 (x7_13 + 1) lv_17 siz_17 ky_17 va_17 tot_17 lf_17 sl_17 pk_17 pv_17 < μ13 x7_13 lv_13 siz_13 ky_13 va_13 tot_13 lf_13 sl_13 pk_13 pv_13)))))))) ∧ (¬ (tot + x6_10) ≤ 60 → (K (-2) lv siz ky va tot lf_10 sl_10 mk_9 mv_9 pk pv))))) ∧ (¬ x5_9 ≤ x7_10 → (vp_in x7_10 60 ∧ X0_present_w lv siz ky ((mk_9 x7_10.toNatClampNeg) + (((z1 + 51) - (sub (dep - 1).toNatClampNeg)) * r_7)) (fun (r_19 : Int32) (lf_19 : Int32) (sl_19 : Int32) => ((¬ r_19 = 0 → ((I10 x6_10 (x7_10 + 1) lf_19 sl_19 ∧ μ10 x6_10 (x7_10 + 1) lf_19 sl_19 < μ10 x6_10 x7_10 lf_10 sl_10))) ∧ (r_19 = 0 → ((I10 (x6_10 + 1) (x7_10 + 1) lf_19 sl_19 ∧ μ10 (x6_10 + 1) (x7_10 + 1) lf_19 sl_19 < μ10 x6_10 x7_10 lf_10 sl_10))))))))))) ∧ (∃ (I21 : Int32 → Int32 → Int32 → (Nat → Int32) → (Nat → Int32) → Prop) (μ21 : Int32 → Int32 → Int32 → (Nat → Int32) → (Nat → Int32) → Nat), I21 0 lf_8 sl_8 mk mv ∧ ∀ (x5_21 : Int32) (lf_21 : Int32) (sl_21 : Int32) (mk_21 : Nat → Int32) (mv_21 : Nat → Int32), I21 x5_21 lf_21 sl_21 mk_21 mv_21 → (((60 ≤ x5_21 → (J9 x5_21 lf_21 sl_21 mk_21 mv_21)) ∧ (¬ 60 ≤ x5_21 → (X0_found_w siz ky lf_21 sl_21 (fun (r_23 : Int32) => ((r_5 ≤ r_23 → (J9 x5_21 lf_21 sl_21 mk_21 mv_21)) ∧ (¬ r_5 ≤ r_23 → (vp_in ((lf_21 * 8) + sl_21) 256 ∧ vp_in x5_21 60 ∧ vp_in ((lf_21 * 8) + sl_21) 256 ∧ vp_in x5_21 60 ∧ vp_in ((x5_21 + 1) - 1) 60 ∧ X0_seek_w lv siz ky (((upd mk_21 x5_21.toNatClampNeg (ky ((lf_21 * 8) + sl_21).toNatClampNeg)) ((x5_21 + 1) - 1).toNatClampNeg) + 1) (fun (lf_30 : Int32) (sl_30 : Int32) => (I21 (x5_21 + 1) lf_30 sl_30 (upd mk_21 x5_21.toNatClampNeg (ky ((lf_21 * 8) + sl_21).toNatClampNeg)) (upd mv_21 x5_21.toNatClampNeg (va ((lf_21 * 8) + sl_21).toNatClampNeg)) ∧ μ21 (x5_21 + 1) lf_30 sl_30 (upd mk_21 x5_21.toNatClampNeg (ky ((lf_21 * 8) + sl_21).toNatClampNeg)) (upd mv_21 x5_21.toNatClampNeg (va ((lf_21 * 8) + sl_21).toNatClampNeg)) < μ21 x5_21 lf_21 sl_21 mk_21 mv_21))))))))))))))))) ∧ (¬ r_2 = 0 → (K (-1) lv siz ky va tot lf sl mk mv pk pv)))))) ∧ (dep = 0 → (K (-3) lv siz ky va tot lf sl mk mv pk pv)))
def X0_keyBehind_w (dep : Int32) (sub : Nat → Int32) (lv : Int32) (siz : Nat → Int32) (ky : Nat → Int32) (K : Int32 → Int32 → Int32 → Prop) : Prop :=
  X0_keyOf_w sub dep (fun (r_1 : Int32) => ((¬ dep = 0 → (X0_seek_w lv siz ky (r_1 + 1) (fun (lf_3 : Int32) (sl_3 : Int32) => X0_found_w siz ky lf_3 sl_3 (fun (r_4 : Int32) => K r_4 lf_3 sl_3)))) ∧ (dep = 0 → (X0_seek_w lv siz ky 0 (fun (lf_5 : Int32) (sl_5 : Int32) => X0_found_w siz ky lf_5 sl_5 (fun (r_6 : Int32) => K r_6 lf_5 sl_5))))))
def X0_data_w (dep : Int32) (sub : Nat → Int32) (lv : Int32) (siz : Nat → Int32) (ky : Nat → Int32) (K : Int32 → Int32 → Int32 → Prop) : Prop :=
  X0_keyBehind_w dep sub lv siz ky (fun (r_1 : Int32) (lf_1 : Int32) (sl_1 : Int32) => ∃ (J2 : Int32 → Prop), (∀ (x2_2 : Int32), J2 x2_2 → (((¬ dep = 0 → (X0_keyOf_w sub dep (fun (r_4 : Int32) => X0_present_w lv siz ky r_4 (fun (r_5 : Int32) (lf_5 : Int32) (sl_5 : Int32) => ((r_5 = 0 → (K x2_2 lf_5 sl_5)) ∧ (¬ r_5 = 0 → (K (x2_2 + 1) lf_5 sl_5))))))) ∧ (dep = 0 → (K x2_2 lf_1 sl_1))))) ∧ (X0_endOf_w sub dep (fun (r_7 : Int32) => ((r_7 ≤ r_1 → (J2 0)) ∧ (¬ r_7 ≤ r_1 → (J2 10))))))
def X0_value_w (dep : Int32) (sub : Nat → Int32) (lv : Int32) (siz : Nat → Int32) (ky : Nat → Int32) (va : Nat → Int32) (lf : Int32) (sl : Int32) (K : Int32 → Int32 → Int32 → Prop) : Prop :=
  ((¬ dep = 0 → (X0_keyOf_w sub dep (fun (r_2 : Int32) => X0_present_w lv siz ky r_2 (fun (r_3 : Int32) (lf_3 : Int32) (sl_3 : Int32) => ((r_3 = 0 → (K 0 lf_3 sl_3)) ∧ (¬ r_3 = 0 → (vp_in ((lf_3 * 8) + sl_3) 256 ∧ K (va ((lf_3 * 8) + sl_3).toNatClampNeg) lf_3 sl_3))))))) ∧ (dep = 0 → (K 0 lf sl)))
def X0_subscriptAt_w  (z1 : Int32) (z2 : Int32) (K : Int32 → Prop) : Prop :=
  K (((z1 >>> ((14 - (7 * z2)) &&& 31)) &&& 127) - 51)
def X0_next_w (dep : Int32) (sub : Nat → Int32) (lv : Int32) (siz : Nat → Int32) (ky : Nat → Int32) (lf : Int32) (sl : Int32) (K : Int32 → Int32 → Int32 → Prop) : Prop :=
  ((¬ dep = 0 → (X0_endOf_w sub dep (fun (r_2 : Int32) => X0_seek_w lv siz ky r_2 (fun (lf_3 : Int32) (sl_3 : Int32) => X0_found_w siz ky lf_3 sl_3 (fun (r_4 : Int32) => X0_endOf_w sub (dep - 1) (fun (r_5 : Int32) => ((r_5 ≤ r_4 → (K (-100) lf_3 sl_3)) ∧ (¬ r_5 ≤ r_4 → (X0_subscriptAt_w r_4 (dep - 1) (fun (r_7 : Int32) => K r_7 lf_3 sl_3)))))))))) ∧ (dep = 0 → (K (-100) lf sl)))
def X0_keyBefore_w (lv : Int32) (siz : Nat → Int32) (ky : Nat → Int32) (z1 : Int32) (K : Int32 → Int32 → Int32 → Prop) : Prop :=
  X0_seek_w lv siz ky z1 (fun (lf_1 : Int32) (sl_1 : Int32) => ((sl_1 ≤ 0 → (((¬ lf_1 = 0 → (vp_in (lf_1 - 1) 32 ∧ vp_in ((((lf_1 - 1) * 8) + (siz (lf_1 - 1).toNatClampNeg)) - 1) 256 ∧ K (ky ((((lf_1 - 1) * 8) + (siz (lf_1 - 1).toNatClampNeg)) - 1).toNatClampNeg) lf_1 sl_1)) ∧ (lf_1 = 0 → (K (-1) lf_1 sl_1))))) ∧ (¬ sl_1 ≤ 0 → (vp_in (((lf_1 * 8) + sl_1) - 1) 256 ∧ K (ky (((lf_1 * 8) + sl_1) - 1).toNatClampNeg) lf_1 sl_1))))
def X0_previous_w (dep : Int32) (sub : Nat → Int32) (lv : Int32) (siz : Nat → Int32) (ky : Nat → Int32) (lf : Int32) (sl : Int32) (K : Int32 → Int32 → Int32 → Prop) : Prop :=
  ((¬ dep = 0 → (X0_keyOf_w sub dep (fun (r_2 : Int32) => X0_keyBefore_w lv siz ky r_2 (fun (r_3 : Int32) (lf_3 : Int32) (sl_3 : Int32) => X0_keyOf_w sub (dep - 1) (fun (r_4 : Int32) => X0_unit_w (dep - 1) (fun (r_5 : Int32) => (((r_4 + r_5) ≤ r_3 → (X0_subscriptAt_w r_3 (dep - 1) (fun (r_7 : Int32) => K r_7 lf_3 sl_3))) ∧ (¬ (r_4 + r_5) ≤ r_3 → (K (-100) lf_3 sl_3))))))))) ∧ (dep = 0 → (K (-100) lf sl)))
def X0_first_w (dep : Int32) (sub : Nat → Int32) (lv : Int32) (siz : Nat → Int32) (ky : Nat → Int32) (lf : Int32) (sl : Int32) (K : Int32 → Int32 → Int32 → Prop) : Prop :=
  ((dep < 3 → (X0_keyBehind_w dep sub lv siz ky (fun (r_2 : Int32) (lf_2 : Int32) (sl_2 : Int32) => X0_endOf_w sub dep (fun (r_3 : Int32) => ((r_3 ≤ r_2 → (K (-100) lf_2 sl_2)) ∧ (¬ r_3 ≤ r_2 → (X0_subscriptAt_w r_2 dep (fun (r_5 : Int32) => K r_5 lf_2 sl_2)))))))) ∧ (¬ dep < 3 → (K (-100) lf sl)))
def X0_query_w (dep : Int32) (sub : Nat → Int32) (lv : Int32) (siz : Nat → Int32) (ky : Nat → Int32) (va : Nat → Int32) (K : Int32 → Int32 → Int32 → Prop) : Prop :=
  X0_keyBehind_w dep sub lv siz ky (fun (r_1 : Int32) (lf_1 : Int32) (sl_1 : Int32) => ((¬ r_1 = 2097152 → (vp_in ((lf_1 * 8) + sl_1) 256 ∧ K (va ((lf_1 * 8) + sl_1).toNatClampNeg) lf_1 sl_1)) ∧ (r_1 = 2097152 → (K 0 lf_1 sl_1))))
def X0_before_w (dep : Int32) (sub : Nat → Int32) (lv : Int32) (siz : Nat → Int32) (ky : Nat → Int32) (K : Int32 → Int32 → Int32 → Prop) : Prop :=
  X0_keyOf_w sub dep (fun (r_1 : Int32) => X0_seek_w lv siz ky r_1 (fun (lf_2 : Int32) (sl_2 : Int32) => ∃ (I3 : Int32 → Int32 → Prop) (μ3 : Int32 → Int32 → Nat), I3 sl_2 0 ∧ ∀ (x2_3 : Int32) (x3_3 : Int32), I3 x2_3 x3_3 → (((lf_2 ≤ x3_3 → (K x2_3 lf_2 sl_2)) ∧ (¬ lf_2 ≤ x3_3 → (vp_in x3_3 32 ∧ (I3 (x2_3 + (siz x3_3.toNatClampNeg)) (x3_3 + 1) ∧ μ3 (x2_3 + (siz x3_3.toNatClampNeg)) (x3_3 + 1) < μ3 x2_3 x3_3)))))))
def X0_count_w (tot : Int32) (K : Int32 → Prop) : Prop :=
  K tot
def X1_isSubscript_w  (z1 : Int32) (K : Int32 → Prop) : Prop :=
  ((z1 < (-50) → (K 0)) ∧ (¬ z1 < (-50) → (((50 < z1 → (K 0)) ∧ (¬ 50 < z1 → (K 1))))))
def X1_down_w (po : Nat → Int32) (dp : Int32) (z1 : Int32) (K : Int32 → (Nat → Int32) → Int32 → Prop) : Prop :=
  X1_isSubscript_w z1 (fun (r_1 : Int32) => ((¬ r_1 = 0 → (((¬ dp = 3 → (vp_in dp 3 ∧ K (dp + 1) (upd po dp.toNatClampNeg z1) (dp + 1))) ∧ (dp = 3 → (K (-2) po dp))))) ∧ (r_1 = 0 → (K (-1) po dp))))
def X1_up_w (dp : Int32) (K : Int32 → Int32 → Prop) : Prop :=
  ((¬ dp = 0 → (K (dp - 1) (dp - 1))) ∧ (dp = 0 → (K (-3) dp)))
def X1_turn_w (po : Nat → Int32) (dp : Int32) (z1 : Int32) (K : Int32 → (Nat → Int32) → Prop) : Prop :=
  ((¬ dp = 0 → (X1_isSubscript_w z1 (fun (r_2 : Int32) => ((¬ r_2 = 0 → (vp_in (dp - 1) 3 ∧ vp_in (dp - 1) 3 ∧ K (po (dp - 1).toNatClampNeg) (upd po (dp - 1).toNatClampNeg z1))) ∧ (r_2 = 0 → (K (-1) po)))))) ∧ (dp = 0 → (K (-3) po)))
def X1_begins_w (li : Nat → Int32) (le : Nat → Int32) (po : Nat → Int32) (z1 : Int32) (z2 : Int32) (K : Int32 → Prop) : Prop :=
  vp_in z1 60 ∧ ((z2 ≤ (le z1.toNatClampNeg) → (∃ (I3 : Int32 → Prop) (μ3 : Int32 → Nat), I3 0 ∧ ∀ (x3_3 : Int32), I3 x3_3 → (((z2 ≤ x3_3 → (K 1)) ∧ (¬ z2 ≤ x3_3 → (vp_in ((z1 * 3) + x3_3) 180 ∧ vp_in x3_3 3 ∧ (((li ((z1 * 3) + x3_3).toNatClampNeg) = (po x3_3.toNatClampNeg) → ((I3 (x3_3 + 1) ∧ μ3 (x3_3 + 1) < μ3 x3_3))) ∧ (¬ (li ((z1 * 3) + x3_3).toNatClampNeg) = (po x3_3.toNatClampNeg) → (K 0))))))))) ∧ (¬ z2 ≤ (le z1.toNatClampNeg) → (K 0)))
def X1_here_w (li : Nat → Int32) (le : Nat → Int32) (nd : Int32) (po : Nat → Int32) (dp : Int32) (K : Int32 → Prop) : Prop :=
  ∃ (I1 : Int32 → Prop) (μ1 : Int32 → Nat), I1 0 ∧ ∀ (x1_1 : Int32), I1 x1_1 → (((nd ≤ x1_1 → (K (-1))) ∧ (¬ nd ≤ x1_1 → (vp_in x1_1 60 ∧ ((¬ (le x1_1.toNatClampNeg) = dp → ((I1 (x1_1 + 1) ∧ μ1 (x1_1 + 1) < μ1 x1_1))) ∧ ((le x1_1.toNatClampNeg) = dp → (X1_begins_w li le po x1_1 dp (fun (r_5 : Int32) => ((r_5 = 0 → ((I1 (x1_1 + 1) ∧ μ1 (x1_1 + 1) < μ1 x1_1))) ∧ (¬ r_5 = 0 → (K x1_1)))))))))))
def X1_set_w (li : Nat → Int32) (le : Nat → Int32) (vs : Nat → Int32) (nd : Int32) (po : Nat → Int32) (dp : Int32) (z1 : Int32) (K : Int32 → (Nat → Int32) → (Nat → Int32) → (Nat → Int32) → Int32 → Prop) : Prop :=
  ((¬ dp = 0 → (X1_here_w li le nd po dp (fun (r_2 : Int32) => ∃ (J3 : Prop), (J3  → (((r_2 < 0 → (∃ (I5 : Int32 → (Nat → Int32) → Prop) (μ5 : Int32 → (Nat → Int32) → Nat), I5 0 li ∧ ∀ (x3_5 : Int32) (li_5 : Nat → Int32), I5 x3_5 li_5 → (((dp ≤ x3_5 → (vp_in nd 60 ∧ vp_in nd 60 ∧ K 0 li_5 (upd le nd.toNatClampNeg dp) (upd vs nd.toNatClampNeg z1) (nd + 1))) ∧ (¬ dp ≤ x3_5 → (vp_in x3_5 3 ∧ vp_in ((nd * 3) + x3_5) 180 ∧ (I5 (x3_5 + 1) (upd li_5 ((nd * 3) + x3_5).toNatClampNeg (po x3_5.toNatClampNeg)) ∧ μ5 (x3_5 + 1) (upd li_5 ((nd * 3) + x3_5).toNatClampNeg (po x3_5.toNatClampNeg)) < μ5 x3_5 li_5))))))) ∧ (¬ r_2 < 0 → (vp_in r_2 60 ∧ K 1 li le (upd vs r_2.toNatClampNeg z1) nd))))) ∧ (((0 ≤ r_2 → (J3)) ∧ (¬ 0 ≤ r_2 → (((¬ nd = 60 → (J3)) ∧ (nd = 60 → (K (-2) li le vs nd)))))))))) ∧ (dp = 0 → (K (-3) li le vs nd)))
def X1_value_w (li : Nat → Int32) (le : Nat → Int32) (vs : Nat → Int32) (nd : Int32) (po : Nat → Int32) (dp : Int32) (K : Int32 → Prop) : Prop :=
  X1_here_w li le nd po dp (fun (r_1 : Int32) => ((0 ≤ r_1 → (vp_in r_1 60 ∧ K (vs r_1.toNatClampNeg))) ∧ (¬ 0 ≤ r_1 → (K 0))))
def X1_increment_w (li : Nat → Int32) (le : Nat → Int32) (vs : Nat → Int32) (nd : Int32) (po : Nat → Int32) (dp : Int32) (z1 : Int32) (K : Int32 → (Nat → Int32) → (Nat → Int32) → (Nat → Int32) → Int32 → Prop) : Prop :=
  X1_value_w li le vs nd po dp (fun (r_1 : Int32) => X1_set_w li le vs nd po dp (r_1 + z1) (fun (r_2 : Int32) (li_2 : Nat → Int32) (le_2 : Nat → Int32) (vs_2 : Nat → Int32) (nd_2 : Int32) => ((0 ≤ r_2 → (K (r_1 + z1) li_2 le_2 vs_2 nd_2)) ∧ (¬ 0 ≤ r_2 → (K r_2 li_2 le_2 vs_2 nd_2)))))
def X1_kill_w (li : Nat → Int32) (le : Nat → Int32) (vs : Nat → Int32) (nd : Int32) (po : Nat → Int32) (dp : Int32) (K : Int32 → (Nat → Int32) → (Nat → Int32) → (Nat → Int32) → Int32 → Prop) : Prop :=
  ∃ (I1 : Int32 → Int32 → (Nat → Int32) → (Nat → Int32) → (Nat → Int32) → Prop) (μ1 : Int32 → Int32 → (Nat → Int32) → (Nat → Int32) → (Nat → Int32) → Nat), I1 0 0 li le vs ∧ ∀ (x1_1 : Int32) (x2_1 : Int32) (li_1 : Nat → Int32) (le_1 : Nat → Int32) (vs_1 : Nat → Int32), I1 x1_1 x2_1 li_1 le_1 vs_1 → (((nd ≤ x2_1 → (K (nd - x1_1) li_1 le_1 vs_1 x1_1)) ∧ (¬ nd ≤ x2_1 → (X1_begins_w li_1 le_1 po x2_1 dp (fun (r_3 : Int32) => ((¬ r_3 = 0 → ((I1 x1_1 (x2_1 + 1) li_1 le_1 vs_1 ∧ μ1 x1_1 (x2_1 + 1) li_1 le_1 vs_1 < μ1 x1_1 x2_1 li_1 le_1 vs_1))) ∧ (r_3 = 0 → (∃ (I5 : Int32 → (Nat → Int32) → Prop) (μ5 : Int32 → (Nat → Int32) → Nat), I5 0 li_1 ∧ ∀ (x3_5 : Int32) (li_5 : Nat → Int32), I5 x3_5 li_5 → (((3 ≤ x3_5 → (vp_in x2_1 60 ∧ vp_in x1_1 60 ∧ vp_in x2_1 60 ∧ vp_in x1_1 60 ∧ (I1 (x1_1 + 1) (x2_1 + 1) li_5 (upd le_1 x1_1.toNatClampNeg (le_1 x2_1.toNatClampNeg)) (upd vs_1 x1_1.toNatClampNeg (vs_1 x2_1.toNatClampNeg)) ∧ μ1 (x1_1 + 1) (x2_1 + 1) li_5 (upd le_1 x1_1.toNatClampNeg (le_1 x2_1.toNatClampNeg)) (upd vs_1 x1_1.toNatClampNeg (vs_1 x2_1.toNatClampNeg)) < μ1 x1_1 x2_1 li_1 le_1 vs_1))) ∧ (¬ 3 ≤ x3_5 → (vp_in ((x2_1 * 3) + x3_5) 180 ∧ vp_in ((x1_1 * 3) + x3_5) 180 ∧ (I5 (x3_5 + 1) (upd li_5 ((x1_1 * 3) + x3_5).toNatClampNeg (li_5 ((x2_1 * 3) + x3_5).toNatClampNeg)) ∧ μ5 (x3_5 + 1) (upd li_5 ((x1_1 * 3) + x3_5).toNatClampNeg (li_5 ((x2_1 * 3) + x3_5).toNatClampNeg)) < μ5 x3_5 li_5)))))))))))))
def X1_twin_w (li : Nat → Int32) (le : Nat → Int32) (nd : Int32) (z1 : Int32) (z2 : Int32) (z3 : Int32) (K : Int32 → Prop) : Prop :=
  ∃ (I1 : Int32 → Prop) (μ1 : Int32 → Nat), I1 0 ∧ ∀ (x4_1 : Int32), I1 x4_1 → (((nd ≤ x4_1 → (K (-1))) ∧ (¬ nd ≤ x4_1 → (∃ (J3 : Int32 → Prop), (∀ (x5_3 : Int32), J3 x5_3 → (∃ (I4 : Int32 → Int32 → Prop) (μ4 : Int32 → Int32 → Nat), I4 x5_3 0 ∧ ∀ (x5_4 : Int32) (x6_4 : Int32), I4 x5_4 x6_4 → (vp_in z1 60 ∧ (((le z1.toNatClampNeg) ≤ x6_4 → (((x5_4 = 0 → ((I1 (x4_1 + 1) ∧ μ1 (x4_1 + 1) < μ1 x4_1))) ∧ (¬ x5_4 = 0 → (K x4_1))))) ∧ (¬ (le z1.toNatClampNeg) ≤ x6_4 → (((x5_4 = 0 → ((I4 0 (x6_4 + 1) ∧ μ4 0 (x6_4 + 1) < μ4 x5_4 x6_4))) ∧ (¬ x5_4 = 0 → (vp_in ((x4_1 * 3) + x6_4) 180 ∧ ((¬ x6_4 = z2 → (vp_in ((z1 * 3) + x6_4) 180 ∧ ((¬ (li ((x4_1 * 3) + x6_4).toNatClampNeg) = (li ((z1 * 3) + x6_4).toNatClampNeg) → ((I4 0 (x6_4 + 1) ∧ μ4 0 (x6_4 + 1) < μ4 x5_4 x6_4))) ∧ ((li ((x4_1 * 3) + x6_4).toNatClampNeg) = (li ((z1 * 3) + x6_4).toNatClampNeg) → ((I4 1 (x6_4 + 1) ∧ μ4 1 (x6_4 + 1) < μ4 x5_4 x6_4)))))) ∧ (x6_4 = z2 → (((¬ (li ((x4_1 * 3) + x6_4).toNatClampNeg) = z3 → ((I4 0 (x6_4 + 1) ∧ μ4 0 (x6_4 + 1) < μ4 x5_4 x6_4))) ∧ ((li ((x4_1 * 3) + x6_4).toNatClampNeg) = z3 → ((I4 1 (x6_4 + 1) ∧ μ4 1 (x6_4 + 1) < μ4 x5_4 x6_4)))))))))))))))) ∧ (vp_in x4_1 60 ∧ vp_in z1 60 ∧ ((¬ (le x4_1.toNatClampNeg) = (le z1.toNatClampNeg) → (J3 0)) ∧ ((le x4_1.toNatClampNeg) = (le z1.toNatClampNeg) → (J3 1))))))))
def X1_place_w (li : Nat → Int32) (le : Nat → Int32) (vs : Nat → Int32) (nd : Int32) (dp : Int32) (z1 : Int32) (z2 : Int32) (K : (Nat → Int32) → (Nat → Int32) → (Nat → Int32) → Int32 → Prop) : Prop :=
  X1_twin_w li le nd z1 (dp - 1) z2 (fun (r_1 : Int32) => ∃ (J2 : Int32 → (Nat → Int32) → (Nat → Int32) → Int32 → Prop), (∀ (x3_2 : Int32) (li_2 : Nat → Int32) (le_2 : Nat → Int32) (nd_2 : Int32), J2 x3_2 li_2 le_2 nd_2 → (vp_in z1 60 ∧ vp_in x3_2 60 ∧ K li_2 le_2 (upd vs x3_2.toNatClampNeg (vs z1.toNatClampNeg)) nd_2)) ∧ (((0 ≤ r_1 → (J2 r_1 li le nd)) ∧ (¬ 0 ≤ r_1 → (∃ (I6 : Int32 → (Nat → Int32) → Prop) (μ6 : Int32 → (Nat → Int32) → Nat), I6 0 li ∧ ∀ (x4_6 : Int32) (li_6 : Nat → Int32), I6 x4_6 li_6 → (((3 ≤ x4_6 → (vp_in z1 60 ∧ vp_in nd 60 ∧ J2 nd li_6 (upd le nd.toNatClampNeg (le z1.toNatClampNeg)) (nd + 1))) ∧ (¬ 3 ≤ x4_6 → (((¬ x4_6 = (dp - 1) → (vp_in ((z1 * 3) + x4_6) 180 ∧ vp_in ((nd * 3) + x4_6) 180 ∧ (I6 (x4_6 + 1) (upd li_6 ((nd * 3) + x4_6).toNatClampNeg (li_6 ((z1 * 3) + x4_6).toNatClampNeg)) ∧ μ6 (x4_6 + 1) (upd li_6 ((nd * 3) + x4_6).toNatClampNeg (li_6 ((z1 * 3) + x4_6).toNatClampNeg)) < μ6 x4_6 li_6))) ∧ (x4_6 = (dp - 1) → (vp_in ((nd * 3) + x4_6) 180 ∧ (I6 (x4_6 + 1) (upd li_6 ((nd * 3) + x4_6).toNatClampNeg z2) ∧ μ6 (x4_6 + 1) (upd li_6 ((nd * 3) + x4_6).toNatClampNeg z2) < μ6 x4_6 li_6)))))))))))))
def X1_merge_w (li : Nat → Int32) (le : Nat → Int32) (vs : Nat → Int32) (nd : Int32) (po : Nat → Int32) (dp : Int32) (z1 : Int32) (K : Int32 → (Nat → Int32) → (Nat → Int32) → (Nat → Int32) → Int32 → Prop) : Prop :=
  ((¬ dp = 0 → (X1_isSubscript_w z1 (fun (r_2 : Int32) => ((¬ r_2 = 0 → (∃ (I4 : Int32 → Int32 → Int32 → Prop) (μ4 : Int32 → Int32 → Int32 → Nat), I4 0 0 0 ∧ ∀ (x3_4 : Int32) (x4_4 : Int32) (x5_4 : Int32), I4 x3_4 x4_4 x5_4 → (((nd ≤ x5_4 → ((((nd + x4_4) ≤ 60 → (∃ (I7 : Int32 → (Nat → Int32) → (Nat → Int32) → (Nat → Int32) → Int32 → Prop) (μ7 : Int32 → (Nat → Int32) → (Nat → Int32) → (Nat → Int32) → Int32 → Nat), I7 0 li le vs nd ∧ ∀ (x5_7 : Int32) (li_7 : Nat → Int32) (le_7 : Nat → Int32) (vs_7 : Nat → Int32) (nd_7 : Int32), I7 x5_7 li_7 le_7 vs_7 nd_7 → (((nd ≤ x5_7 → (K x3_4 li_7 le_7 vs_7 nd_7)) ∧ (¬ nd ≤ x5_7 → (X1_begins_w li_7 le_7 po x5_7 dp (fun (r_9 : Int32) => ((r_9 = 0 → ((I7 (x5_7 + 1) li_7 le_7 vs_7 nd_7 ∧ μ7 (x5_7 + 1) li_7 le_7 vs_7 nd_7 < μ7 x5_7 li_7 le_7 vs_7 nd_7))) ∧ (¬ r_9 = 0 → (X1_place_w li_7 le_7 vs_7 nd_7 dp x5_7 z1 (fun (li_11 : Nat → Int32) (le_11 : Nat → Int32) (vs_11 : Nat → Int32) (nd_11 : Int32) => (I7 (x5_7 + 1) li_11 le_11 vs_11 nd_11 ∧ μ7 (x5_7 + 1) li_11 le_11 vs_11 nd_11 < μ7 x5_7 li_7 le_7 vs_7 nd_7)))))))))))) ∧ (¬ (nd + x4_4) ≤ 60 → (K (-2) li le vs nd))))) ∧ (¬ nd ≤ x5_4 → (X1_begins_w li le po x5_4 dp (fun (r_12 : Int32) => ((r_12 = 0 → ((I4 x3_4 x4_4 (x5_4 + 1) ∧ μ4 x3_4 x4_4 (x5_4 + 1) < μ4 x3_4 x4_4 x5_4))) ∧ (¬ r_12 = 0 → (X1_twin_w li le nd x5_4 (dp - 1) z1 (fun (r_14 : Int32) => ((0 ≤ r_14 → ((I4 (x3_4 + 1) x4_4 (x5_4 + 1) ∧ μ4 (x3_4 + 1) x4_4 (x5_4 + 1) < μ4 x3_4 x4_4 x5_4))) ∧ (¬ 0 ≤ r_14 → ((I4 (x3_4 + 1) (x4_4 + 1) (x5_4 + 1) ∧ μ4 (x3_4 + 1) (x4_4 + 1) (x5_4 + 1) < μ4 x3_4 x4_4 x5_4))))))))))))))) ∧ (r_2 = 0 → (K (-1) li le vs nd)))))) ∧ (dp = 0 → (K (-3) li le vs nd)))
def X1_data_w (li : Nat → Int32) (le : Nat → Int32) (nd : Int32) (po : Nat → Int32) (dp : Int32) (K : Int32 → Prop) : Prop :=
  ∃ (I1 : Int32 → Int32 → Prop) (μ1 : Int32 → Int32 → Nat), I1 0 0 ∧ ∀ (x1_1 : Int32) (x2_1 : Int32), I1 x1_1 x2_1 → (((nd ≤ x2_1 → (X1_here_w li le nd po dp (fun (r_3 : Int32) => ((r_3 < 0 → (K x1_1)) ∧ (¬ r_3 < 0 → (K (x1_1 + 1))))))) ∧ (¬ nd ≤ x2_1 → (X1_begins_w li le po x2_1 dp (fun (r_5 : Int32) => ((r_5 = 0 → ((I1 x1_1 (x2_1 + 1) ∧ μ1 x1_1 (x2_1 + 1) < μ1 x1_1 x2_1))) ∧ (¬ r_5 = 0 → (vp_in x2_1 60 ∧ (((le x2_1.toNatClampNeg) ≤ dp → ((I1 x1_1 (x2_1 + 1) ∧ μ1 x1_1 (x2_1 + 1) < μ1 x1_1 x2_1))) ∧ (¬ (le x2_1.toNatClampNeg) ≤ dp → ((I1 10 (x2_1 + 1) ∧ μ1 10 (x2_1 + 1) < μ1 x1_1 x2_1))))))))))))
def X1_nearest_w (li : Nat → Int32) (le : Nat → Int32) (nd : Int32) (po : Nat → Int32) (z1 : Int32) (z2 : Int32) (z3 : Int32) (K : Int32 → Prop) : Prop :=
  ∃ (I1 : Int32 → Int32 → Prop) (μ1 : Int32 → Int32 → Nat), I1 (-100) 0 ∧ ∀ (x4_1 : Int32) (x5_1 : Int32), I1 x4_1 x5_1 → (((nd ≤ x5_1 → (K x4_1)) ∧ (¬ nd ≤ x5_1 → (vp_in ((x5_1 * 3) + z1) 180 ∧ X1_begins_w li le po x5_1 z1 (fun (r_4 : Int32) => ((r_4 = 0 → ((I1 x4_1 (x5_1 + 1) ∧ μ1 x4_1 (x5_1 + 1) < μ1 x4_1 x5_1))) ∧ (¬ r_4 = 0 → (vp_in x5_1 60 ∧ (((le x5_1.toNatClampNeg) ≤ z1 → ((I1 x4_1 (x5_1 + 1) ∧ μ1 x4_1 (x5_1 + 1) < μ1 x4_1 x5_1))) ∧ (¬ (le x5_1.toNatClampNeg) ≤ z1 → ((((((li ((x5_1 * 3) + z1).toNatClampNeg) - z2) * z3) ≤ 0 → ((I1 x4_1 (x5_1 + 1) ∧ μ1 x4_1 (x5_1 + 1) < μ1 x4_1 x5_1))) ∧ (¬ (((li ((x5_1 * 3) + z1).toNatClampNeg) - z2) * z3) ≤ 0 → (((x4_1 = (-100) → ((I1 (li ((x5_1 * 3) + z1).toNatClampNeg) (x5_1 + 1) ∧ μ1 (li ((x5_1 * 3) + z1).toNatClampNeg) (x5_1 + 1) < μ1 x4_1 x5_1))) ∧ (¬ x4_1 = (-100) → (((((x4_1 - (li ((x5_1 * 3) + z1).toNatClampNeg)) * z3) ≤ 0 → ((I1 x4_1 (x5_1 + 1) ∧ μ1 x4_1 (x5_1 + 1) < μ1 x4_1 x5_1))) ∧ (¬ ((x4_1 - (li ((x5_1 * 3) + z1).toNatClampNeg)) * z3) ≤ 0 → ((I1 (li ((x5_1 * 3) + z1).toNatClampNeg) (x5_1 + 1) ∧ μ1 (li ((x5_1 * 3) + z1).toNatClampNeg) (x5_1 + 1) < μ1 x4_1 x5_1)))))))))))))))))))))
def X1_next_w (li : Nat → Int32) (le : Nat → Int32) (nd : Int32) (po : Nat → Int32) (dp : Int32) (K : Int32 → Prop) : Prop :=
  ((¬ dp = 0 → (vp_in (dp - 1) 3 ∧ X1_nearest_w li le nd po (dp - 1) (po (dp - 1).toNatClampNeg) 1 (fun (r_3 : Int32) => K r_3))) ∧ (dp = 0 → (K (-100))))
def X1_previous_w (li : Nat → Int32) (le : Nat → Int32) (nd : Int32) (po : Nat → Int32) (dp : Int32) (K : Int32 → Prop) : Prop :=
  ((¬ dp = 0 → (vp_in (dp - 1) 3 ∧ X1_nearest_w li le nd po (dp - 1) (po (dp - 1).toNatClampNeg) (-1) (fun (r_3 : Int32) => K r_3))) ∧ (dp = 0 → (K (-100))))
def X1_first_w (li : Nat → Int32) (le : Nat → Int32) (nd : Int32) (po : Nat → Int32) (dp : Int32) (K : Int32 → Prop) : Prop :=
  ((¬ dp = 3 → (X1_nearest_w li le nd po dp (-51) 1 (fun (r_2 : Int32) => K r_2))) ∧ (dp = 3 → (K (-100))))
def X1_order_w (li : Nat → Int32) (le : Nat → Int32) (po : Nat → Int32) (dp : Int32) (z1 : Int32) (K : Int32 → Prop) : Prop :=
  ∃ (I1 : Int32 → Prop) (μ1 : Int32 → Nat), I1 0 ∧ ∀ (x2_1 : Int32), I1 x2_1 → (((3 ≤ x2_1 → (K 0)) ∧ (¬ 3 ≤ x2_1 → (∃ (J3 : Int32 → Prop), (∀ (x3_3 : Int32), J3 x3_3 → (((dp ≤ x2_1 → (((x3_3 = (-51) → ((I1 (x2_1 + 1) ∧ μ1 (x2_1 + 1) < μ1 x2_1))) ∧ (¬ x3_3 = (-51) → ((((-51) ≤ x3_3 → (K 1)) ∧ (¬ (-51) ≤ x3_3 → (K (-1))))))))) ∧ (¬ dp ≤ x2_1 → (vp_in x2_1 3 ∧ ((x3_3 = (po x2_1.toNatClampNeg) → ((I1 (x2_1 + 1) ∧ μ1 (x2_1 + 1) < μ1 x2_1))) ∧ (¬ x3_3 = (po x2_1.toNatClampNeg) → ((((po x2_1.toNatClampNeg) ≤ x3_3 → (K 1)) ∧ (¬ (po x2_1.toNatClampNeg) ≤ x3_3 → (K (-1)))))))))))) ∧ (vp_in z1 60 ∧ (((le z1.toNatClampNeg) ≤ x2_1 → (J3 (-51))) ∧ (¬ (le z1.toNatClampNeg) ≤ x2_1 → (vp_in ((z1 * 3) + x2_1) 180 ∧ J3 (li ((z1 * 3) + x2_1).toNatClampNeg)))))))))
def X1_earlier_w (li : Nat → Int32) (le : Nat → Int32) (z1 : Int32) (z2 : Int32) (K : Int32 → Prop) : Prop :=
  ∃ (I1 : Int32 → Prop) (μ1 : Int32 → Nat), I1 0 ∧ ∀ (x3_1 : Int32), I1 x3_1 → (((3 ≤ x3_1 → (K 0)) ∧ (¬ 3 ≤ x3_1 → (∃ (J3 : Int32 → Prop), (∀ (x4_3 : Int32), J3 x4_3 → (vp_in z2 60 ∧ (((le z2.toNatClampNeg) ≤ x3_1 → (((x4_3 = (-51) → ((I1 (x3_1 + 1) ∧ μ1 (x3_1 + 1) < μ1 x3_1))) ∧ (¬ x4_3 = (-51) → ((((-51) ≤ x4_3 → (K 0)) ∧ (¬ (-51) ≤ x4_3 → (K 1)))))))) ∧ (¬ (le z2.toNatClampNeg) ≤ x3_1 → (vp_in ((z2 * 3) + x3_1) 180 ∧ ((x4_3 = (li ((z2 * 3) + x3_1).toNatClampNeg) → ((I1 (x3_1 + 1) ∧ μ1 (x3_1 + 1) < μ1 x3_1))) ∧ (¬ x4_3 = (li ((z2 * 3) + x3_1).toNatClampNeg) → ((((li ((z2 * 3) + x3_1).toNatClampNeg) ≤ x4_3 → (K 0)) ∧ (¬ (li ((z2 * 3) + x3_1).toNatClampNeg) ≤ x4_3 → (K 1))))))))))) ∧ (vp_in z1 60 ∧ (((le z1.toNatClampNeg) ≤ x3_1 → (J3 (-51))) ∧ (¬ (le z1.toNatClampNeg) ≤ x3_1 → (vp_in ((z1 * 3) + x3_1) 180 ∧ J3 (li ((z1 * 3) + x3_1).toNatClampNeg)))))))))
def X1_query_w (li : Nat → Int32) (le : Nat → Int32) (vs : Nat → Int32) (nd : Int32) (po : Nat → Int32) (dp : Int32) (K : Int32 → Prop) : Prop :=
  ∃ (I1 : Int32 → Int32 → Prop) (μ1 : Int32 → Int32 → Nat), I1 (-1) 0 ∧ ∀ (x1_1 : Int32) (x2_1 : Int32), I1 x1_1 x2_1 → (((nd ≤ x2_1 → (((0 ≤ x1_1 → (vp_in x1_1 60 ∧ K (vs x1_1.toNatClampNeg))) ∧ (¬ 0 ≤ x1_1 → (K 0))))) ∧ (¬ nd ≤ x2_1 → (X1_order_w li le po dp x2_1 (fun (r_5 : Int32) => ((r_5 ≤ 0 → ((I1 x1_1 (x2_1 + 1) ∧ μ1 x1_1 (x2_1 + 1) < μ1 x1_1 x2_1))) ∧ (¬ r_5 ≤ 0 → (((x1_1 < 0 → ((I1 x2_1 (x2_1 + 1) ∧ μ1 x2_1 (x2_1 + 1) < μ1 x1_1 x2_1))) ∧ (¬ x1_1 < 0 → (X1_earlier_w li le x2_1 x1_1 (fun (r_8 : Int32) => ((r_8 = 0 → ((I1 x1_1 (x2_1 + 1) ∧ μ1 x1_1 (x2_1 + 1) < μ1 x1_1 x2_1))) ∧ (¬ r_8 = 0 → ((I1 x2_1 (x2_1 + 1) ∧ μ1 x2_1 (x2_1 + 1) < μ1 x1_1 x2_1))))))))))))))))
def X1_before_w (li : Nat → Int32) (le : Nat → Int32) (nd : Int32) (po : Nat → Int32) (dp : Int32) (K : Int32 → Prop) : Prop :=
  ∃ (I1 : Int32 → Int32 → Prop) (μ1 : Int32 → Int32 → Nat), I1 0 0 ∧ ∀ (x1_1 : Int32) (x2_1 : Int32), I1 x1_1 x2_1 → (((nd ≤ x2_1 → (K x1_1)) ∧ (¬ nd ≤ x2_1 → (X1_order_w li le po dp x2_1 (fun (r_3 : Int32) => ((0 ≤ r_3 → ((I1 x1_1 (x2_1 + 1) ∧ μ1 x1_1 (x2_1 + 1) < μ1 x1_1 x2_1))) ∧ (¬ 0 ≤ r_3 → ((I1 (x1_1 + 1) (x2_1 + 1) ∧ μ1 (x1_1 + 1) (x2_1 + 1) < μ1 x1_1 x2_1)))))))))
def X1_count_w (nd : Int32) (K : Int32 → Prop) : Prop :=
  K nd
end
section
set_option maxHeartbeats 4000000 in
set_option maxRecDepth 100000 in
theorem c_X0_bad (l : Launch) (D : va_G) (d : ClassId) (z1 : Int32) {K : Int32 → Prop} (h : X0_bad_w z1 K) : CTi l yX0_bad cX0_bad 1 (some .boolean) (gRm 0 0) D d [.int z1] [] (S := Unit) (fun (r : Int32) (_ : Unit) => K r) (fun _ => []) := by
  refine gEnter_i (by decide) (Nat.le_of_ble_eq_true rfl) ?_
  intro p e s m args below meth c A Q ls C ret hl hw
  have C : gCx RX0 cX0_bad 1 (some .boolean) D d A p s m args meth c := C
  have hx := C.1.1
  have hb := C.1.2.1
  have hown := C.1.2.2.2.1
  have hts := C.1.2.2.2.2
  have hl : lv_has ls 1 [(0, .int z1)] := hl
  unfold X0_bad_w at h
  refine lv_iload_n hx hb dX0_bad_0 rfl (lv_at hl 0 rfl) ?_
  refine lv_bipush (v := (-50)) hx hb dX0_bad_1 (by decide) ?_
  refine lv_icmp_lt (tgt := 12) hx hb dX0_bad_3 (by decide) (fun c1 => ?_) (fun c1 => ?_)
  · have h := h.1 c1
    refine lv_iconst (v := 1) hx hb dX0_bad_12 (by decide) ?_
    refine lv_goto (tgt := 17) hx hb dX0_bad_13 (by decide) ?_
    exact ret 1 () _ _ _ _ h rfl hw dX0_bad_17
  · have h := h.2 c1
    refine lv_iload_n hx hb dX0_bad_6 rfl (lv_at hl 0 rfl) ?_
    refine lv_bipush (v := 50) hx hb dX0_bad_7 (by decide) ?_
    refine lv_icmp_le (tgt := 16) hx hb dX0_bad_9 (by decide) (fun c2 => ?_) (fun c2 => ?_)
    · have h := h.1 c2
      refine lv_iconst (v := 0) hx hb dX0_bad_16 (by decide) ?_
      exact ret 0 () _ _ _ _ h rfl hw dX0_bad_17
    · have h := h.2 c2
      refine lv_iconst (v := 1) hx hb dX0_bad_12 (by decide) ?_
      refine lv_goto (tgt := 17) hx hb dX0_bad_13 (by decide) ?_
      exact ret 1 () _ _ _ _ h rfl hw dX0_bad_17
set_option maxHeartbeats 4000000 in
set_option maxRecDepth 100000 in
theorem c_X0_down (l : Launch) (D : va_G) (a : Nat → Nat) (d : ClassId) (dep : Int32) (sub : Nat → Int32) (lv : Int32) (siz : Nat → Int32) (ky : Nat → Int32) (va : Nat → Int32) (tot : Int32) (lf : Int32) (sl : Int32) (mk : Nat → Int32) (mv : Nat → Int32) (pk : Nat → Int32) (pv : Nat → Int32) (z1 : Int32) {K : Int32 → Int32 → (Nat → Int32) → Prop} (h : X0_down_w dep sub z1 K) : CTi l yX0_down cX0_down 2 (some .int)  (gRm 1 20) D d [.ref (a 0), .int z1] (gT a d dep sub lv siz ky va tot lf sl mk mv pk pv) (S := Int32 × (Nat → Int32)) (fun (r : Int32) (u : Int32 × (Nat → Int32)) => K r u.1 u.2) (fun u => gT a d u.1 u.2 lv siz ky va tot lf sl mk mv pk pv) := by
  refine gEnter_i (by decide) (Nat.le_of_ble_eq_true rfl) ?_
  intro p e s m args below meth c A Q ls C ret hl hw
  have C : gCx RX0 cX0_down 2 (some .int) D d A p s m args meth c := C
  have hx := C.1.1
  have hb := C.1.2.1
  have hown := C.1.2.2.2.1
  have hts := C.1.2.2.2.2
  have hl : lv_has ls 2 [(0, .ref (a 0)), (1, .int z1)] := hl
  unfold X0_down_w at h
  refine lv_iload_n hx hb dX0_down_0 rfl (lv_at hl 1 rfl) ?_
  refine g_callSi (rest := []) C (c_X0_bad l D d z1 h) 38 (lw_S q78 q79 q23 q80) (na := 1) (by decide +kernel) rfl (by decide) hw hl.1 rfl (Nat.le_of_ble_eq_true rfl) ⟨Nat.le_refl _, Nat.le_refl _⟩ dX0_down_1 (fun r_1 H locs h hw => ?_)
  refine lv_if_eq (tgt := 9) hx hb dX0_down_4 (by decide) (fun c2 => ?_) (fun c2 => ?_)
  · have h := h.1 c2
    refine lv_aload_n hx hb dX0_down_9 rfl (lv_at hl 0 rfl) ?_
    refine gt_get_dep C hw dX0_down_10 ?_
    refine lv_iconst (v := 3) hx hb dX0_down_13 (by decide) ?_
    refine lv_icmp_lt (tgt := 20) hx hb dX0_down_14 (by decide) (fun c3 => ?_) (fun c3 => ?_)
    · have h := h.1 c3
      refine lv_aload_n hx hb dX0_down_20 rfl (lv_at hl 0 rfl) ?_
      refine gt_get_sub C hw dX0_down_21 ?_
      refine lv_aload_n hx hb dX0_down_24 rfl (lv_at hl 0 rfl) ?_
      refine gt_get_dep C hw dX0_down_25 ?_
      refine lv_iload_n hx hb dX0_down_28 rfl (lv_at hl 1 rfl) ?_
      refine lv_bipush (v := 51) hx hb dX0_down_29 (by decide) ?_
      refine lv_iadd hx hb dX0_down_31 ?_
      have b4 := h.1
      have h := h.2
      refine gt_ast_sub C hw b4 dX0_down_32 (fun H locs hw => ?_)
      refine lv_aload_n hx hb dX0_down_33 rfl (lv_at hl 0 rfl) ?_
      refine lv_dup hx hb dX0_down_34 rfl ?_
      refine gt_get_dep C hw dX0_down_35 ?_
      refine lv_iconst (v := 1) hx hb dX0_down_38 (by decide) ?_
      refine lv_iadd hx hb dX0_down_39 ?_
      refine gt_put_dep C hw dX0_down_40 (fun H locs hw => ?_)
      refine lv_aload_n hx hb dX0_down_43 rfl (lv_at hl 0 rfl) ?_
      refine gt_get_dep C hw dX0_down_44 ?_
      exact ret (dep + 1) ((dep + 1), (upd sub dep.toNatClampNeg (z1 + 51))) _ _ _ _ h rfl hw dX0_down_47
    · have h := h.2 c3
      refine lv_bipush (v := (-2)) hx hb dX0_down_17 (by decide) ?_
      exact ret (-2) (dep, sub) _ _ _ _ h rfl hw dX0_down_19
  · have h := h.2 c2
    refine lv_iconst (v := (-1)) hx hb dX0_down_7 (by decide) ?_
    exact ret (-1) (dep, sub) _ _ _ _ h rfl hw dX0_down_8
set_option maxHeartbeats 4000000 in
set_option maxRecDepth 100000 in
theorem c_X0_up (l : Launch) (D : va_G) (a : Nat → Nat) (d : ClassId) (dep : Int32) (sub : Nat → Int32) (lv : Int32) (siz : Nat → Int32) (ky : Nat → Int32) (va : Nat → Int32) (tot : Int32) (lf : Int32) (sl : Int32) (mk : Nat → Int32) (mv : Nat → Int32) (pk : Nat → Int32) (pv : Nat → Int32) {K : Int32 → Int32 → Prop} (h : X0_up_w dep K) : CTi l yX0_up cX0_up 1 (some .int)  (gRm 0 0) D d [.ref (a 0)] (gT a d dep sub lv siz ky va tot lf sl mk mv pk pv) (S := Int32) (fun (r : Int32) (u : Int32) => K r u) (fun u => gT a d u sub lv siz ky va tot lf sl mk mv pk pv) := by
  refine gEnter_i (by decide) (Nat.le_of_ble_eq_true rfl) ?_
  intro p e s m args below meth c A Q ls C ret hl hw
  have C : gCx RX0 cX0_up 1 (some .int) D d A p s m args meth c := C
  have hx := C.1.1
  have hb := C.1.2.1
  have hown := C.1.2.2.2.1
  have hts := C.1.2.2.2.2
  have hl : lv_has ls 1 [(0, .ref (a 0))] := hl
  unfold X0_up_w at h
  refine lv_aload_n hx hb dX0_up_0 rfl (lv_at hl 0 rfl) ?_
  refine gt_get_dep C hw dX0_up_1 ?_
  refine lv_if_ne (tgt := 10) hx hb dX0_up_4 (by decide) (fun c1 => ?_) (fun c1 => ?_)
  · have h := h.1 c1
    refine lv_aload_n hx hb dX0_up_10 rfl (lv_at hl 0 rfl) ?_
    refine lv_dup hx hb dX0_up_11 rfl ?_
    refine gt_get_dep C hw dX0_up_12 ?_
    refine lv_iconst (v := 1) hx hb dX0_up_15 (by decide) ?_
    refine lv_isub hx hb dX0_up_16 ?_
    refine gt_put_dep C hw dX0_up_17 (fun H locs hw => ?_)
    refine lv_aload_n hx hb dX0_up_20 rfl (lv_at hl 0 rfl) ?_
    refine gt_get_dep C hw dX0_up_21 ?_
    exact ret (dep - 1) (dep - 1) _ _ _ _ h rfl hw dX0_up_24
  · have h := h.2 c1
    refine lv_bipush (v := (-3)) hx hb dX0_up_7 (by decide) ?_
    exact ret (-3) dep _ _ _ _ h rfl hw dX0_up_9
set_option maxHeartbeats 4000000 in
set_option maxRecDepth 100000 in
theorem c_X0_turn (l : Launch) (D : va_G) (a : Nat → Nat) (d : ClassId) (dep : Int32) (sub : Nat → Int32) (lv : Int32) (siz : Nat → Int32) (ky : Nat → Int32) (va : Nat → Int32) (tot : Int32) (lf : Int32) (sl : Int32) (mk : Nat → Int32) (mv : Nat → Int32) (pk : Nat → Int32) (pv : Nat → Int32) (z1 : Int32) {K : Int32 → (Nat → Int32) → Prop} (h : X0_turn_w dep sub z1 K) : CTi l yX0_turn cX0_turn 3 (some .int)  (gRm 1 20) D d [.ref (a 0), .int z1] (gT a d dep sub lv siz ky va tot lf sl mk mv pk pv) (S := (Nat → Int32)) (fun (r : Int32) (u : (Nat → Int32)) => K r u) (fun u => gT a d dep u lv siz ky va tot lf sl mk mv pk pv) := by
  refine gEnter_i (by decide) (Nat.le_of_ble_eq_true rfl) ?_
  intro p e s m args below meth c A Q ls C ret hl hw
  have C : gCx RX0 cX0_turn 3 (some .int) D d A p s m args meth c := C
  have hx := C.1.1
  have hb := C.1.2.1
  have hown := C.1.2.2.2.1
  have hts := C.1.2.2.2.2
  have hl : lv_has ls 3 [(0, .ref (a 0)), (1, .int z1)] := hl
  unfold X0_turn_w at h
  refine lv_aload_n hx hb dX0_turn_0 rfl (lv_at hl 0 rfl) ?_
  refine gt_get_dep C hw dX0_turn_1 ?_
  refine lv_if_ne (tgt := 10) hx hb dX0_turn_4 (by decide) (fun c1 => ?_) (fun c1 => ?_)
  · have h := h.1 c1
    refine lv_iload_n hx hb dX0_turn_10 rfl (lv_at hl 1 rfl) ?_
    refine g_callSi (rest := []) C (c_X0_bad l D d z1 h) 38 (lw_S q78 q79 q23 q80) (na := 1) (by decide +kernel) rfl (by decide) hw hl.1 rfl (Nat.le_of_ble_eq_true rfl) ⟨Nat.le_refl _, Nat.le_refl _⟩ dX0_turn_11 (fun r_2 H locs h hw => ?_)
    refine lv_if_eq (tgt := 19) hx hb dX0_turn_14 (by decide) (fun c3 => ?_) (fun c3 => ?_)
    · have h := h.1 c3
      refine lv_aload_n hx hb dX0_turn_19 rfl (lv_at hl 0 rfl) ?_
      refine gt_get_sub C hw dX0_turn_20 ?_
      refine lv_aload_n hx hb dX0_turn_23 rfl (lv_at hl 0 rfl) ?_
      refine gt_get_dep C hw dX0_turn_24 ?_
      refine lv_iconst (v := 1) hx hb dX0_turn_27 (by decide) ?_
      refine lv_isub hx hb dX0_turn_28 ?_
      have b4 := h.1
      have h := h.2
      refine gt_ald_sub C hw b4 dX0_turn_29 ?_
      refine lv_bipush (v := 51) hx hb dX0_turn_30 (by decide) ?_
      refine lv_isub hx hb dX0_turn_32 ?_
      refine lv_istore_n (lv' := [(2, .int ((sub (dep - 1).toNatClampNeg) - 51)), (0, .ref (a 0)), (1, .int z1)]) hx hb dX0_turn_33 rfl hl (by decide) rfl (fun ls hl => ?_)
      refine lv_aload_n hx hb dX0_turn_34 rfl (lv_at hl 1 rfl) ?_
      refine gt_get_sub C hw dX0_turn_35 ?_
      refine lv_aload_n hx hb dX0_turn_38 rfl (lv_at hl 1 rfl) ?_
      refine gt_get_dep C hw dX0_turn_39 ?_
      refine lv_iconst (v := 1) hx hb dX0_turn_42 (by decide) ?_
      refine lv_isub hx hb dX0_turn_43 ?_
      refine lv_iload_n hx hb dX0_turn_44 rfl (lv_at hl 2 rfl) ?_
      refine lv_bipush (v := 51) hx hb dX0_turn_45 (by decide) ?_
      refine lv_iadd hx hb dX0_turn_47 ?_
      have b5 := h.1
      have h := h.2
      refine gt_ast_sub C hw b5 dX0_turn_48 (fun H locs hw => ?_)
      refine lv_iload_n hx hb dX0_turn_49 rfl (lv_at hl 0 rfl) ?_
      exact ret ((sub (dep - 1).toNatClampNeg) - 51) (upd sub (dep - 1).toNatClampNeg (z1 + 51)) _ _ _ _ h rfl hw dX0_turn_50
    · have h := h.2 c3
      refine lv_iconst (v := (-1)) hx hb dX0_turn_17 (by decide) ?_
      exact ret (-1) sub _ _ _ _ h rfl hw dX0_turn_18
  · have h := h.2 c1
    refine lv_bipush (v := (-3)) hx hb dX0_turn_7 (by decide) ?_
    exact ret (-3) sub _ _ _ _ h rfl hw dX0_turn_9
set_option maxHeartbeats 4000000 in
set_option maxRecDepth 100000 in
theorem c_X0_unit (l : Launch) (D : va_G) (d : ClassId) (z1 : Int32) {K : Int32 → Prop} (h : X0_unit_w z1 K) : CTi l yX0_unit cX0_unit 1 (some .int) (gRm 0 0) D d [.int z1] [] (S := Unit) (fun (r : Int32) (_ : Unit) => K r) (fun _ => []) := by
  refine gEnter_i (by decide) (Nat.le_of_ble_eq_true rfl) ?_
  intro p e s m args below meth c A Q ls C ret hl hw
  have C : gCx RX0 cX0_unit 1 (some .int) D d A p s m args meth c := C
  have hx := C.1.1
  have hb := C.1.2.1
  have hown := C.1.2.2.2.1
  have hts := C.1.2.2.2.2
  have hl : lv_has ls 1 [(0, .int z1)] := hl
  unfold X0_unit_w at h
  refine lv_iconst (v := 1) hx hb dX0_unit_0 (by decide) ?_
  refine lv_bipush (v := 14) hx hb dX0_unit_1 (by decide) ?_
  refine lv_bipush (v := 7) hx hb dX0_unit_3 (by decide) ?_
  refine lv_iload_n hx hb dX0_unit_5 rfl (lv_at hl 0 rfl) ?_
  refine lv_imul hx hb dX0_unit_6 ?_
  refine lv_isub hx hb dX0_unit_7 ?_
  refine lv_ishl hx hb dX0_unit_8 ?_
  exact ret ((1 : Int32) <<< ((14 - (7 * z1)) &&& 31)) () _ _ _ _ h rfl hw dX0_unit_9
set_option maxHeartbeats 4000000 in
set_option maxRecDepth 100000 in
theorem c_X0_keyOf (l : Launch) (D : va_G) (a : Nat → Nat) (d : ClassId) (dep : Int32) (sub : Nat → Int32) (lv : Int32) (siz : Nat → Int32) (ky : Nat → Int32) (va : Nat → Int32) (tot : Int32) (lf : Int32) (sl : Int32) (mk : Nat → Int32) (mv : Nat → Int32) (pk : Nat → Int32) (pv : Nat → Int32) (z1 : Int32) {K : Int32 → Prop} (h : X0_keyOf_w sub z1 K) : CTi l yX0_keyOf cX0_keyOf 4 (some .int)  (gRm 1 20) D d [.ref (a 0), .int z1] (gT a d dep sub lv siz ky va tot lf sl mk mv pk pv) (S := Unit) (fun (r : Int32) (u : Unit) => K r) (fun u => gT a d dep sub lv siz ky va tot lf sl mk mv pk pv) := by
  refine gEnter_i (by decide) (Nat.le_of_ble_eq_true rfl) ?_
  intro p e s m args below meth c A Q ls C ret hl hw
  have C : gCx RX0 cX0_keyOf 4 (some .int) D d A p s m args meth c := C
  have hx := C.1.1
  have hb := C.1.2.1
  have hown := C.1.2.2.2.1
  have hts := C.1.2.2.2.2
  have hl : lv_has ls 4 [(0, .ref (a 0)), (1, .int z1)] := hl
  unfold X0_keyOf_w at h
  refine lv_iconst (v := 0) hx hb dX0_keyOf_0 (by decide) ?_
  refine lv_istore_n (lv' := [(2, .int 0), (0, .ref (a 0)), (1, .int z1)]) hx hb dX0_keyOf_1 rfl hl (by decide) rfl (fun ls hl => ?_)
  refine lv_iconst (v := 0) hx hb dX0_keyOf_2 (by decide) ?_
  refine lv_istore_n (lv' := [(3, .int 0), (2, .int 0), (0, .ref (a 0)), (1, .int z1)]) hx hb dX0_keyOf_3 rfl hl (by decide) rfl (fun ls hl => ?_)
  obtain ⟨I1, μ1, h0_1, hI_1⟩ := h
  have loop_1 : ∀ (k : Nat) (x2_1 : Int32) (x3_1 : Int32) (H : Heap) (locs : List Loc) (ls : Array Slot), μ1 x2_1 x3_1 < k → I1 x2_1 x3_1 → gSt D A s (gT a d dep sub lv siz ky va tot lf sl mk mv pk pv) H locs → lv_has ls 4 [(0, .ref (a 0)), (1, .int z1), (2, .int x2_1), (3, .int x3_1)] → W p l e (gRm 1 20) s m args below meth c H locs 0 0 Q (F0 m 4 ls []) := by
    intro k
    induction k with
    | zero => intro x2_1 x3_1 H locs ls hk; exact absurd hk (Nat.not_lt_zero _)
    | succ k ih_1 =>
      intro x2_1 x3_1 H locs ls hk_1 hi hw hl
      have h := hI_1 x2_1 x3_1 hi
      refine lv_iload_n hx hb dX0_keyOf_4 rfl (lv_at hl 3 rfl) ?_
      refine lv_iload_n hx hb dX0_keyOf_5 rfl (lv_at hl 1 rfl) ?_
      refine lv_icmp_ge (tgt := 29) hx hb dX0_keyOf_6 (by decide) (fun c2 => ?_) (fun c2 => ?_)
      · have h := h.1 c2
        refine lv_iload_n hx hb dX0_keyOf_29 rfl (lv_at hl 2 rfl) ?_
        exact ret x2_1 () _ _ _ _ h rfl hw dX0_keyOf_30
      · have h := h.2 c2
        refine lv_iload_n hx hb dX0_keyOf_9 rfl (lv_at hl 2 rfl) ?_
        refine lv_aload_n hx hb dX0_keyOf_10 rfl (lv_at hl 0 rfl) ?_
        refine gt_get_sub C hw dX0_keyOf_11 ?_
        refine lv_iload_n hx hb dX0_keyOf_14 rfl (lv_at hl 3 rfl) ?_
        have b3 := h.1
        have h := h.2
        refine gt_ald_sub C hw b3 dX0_keyOf_15 ?_
        refine lv_iload_n hx hb dX0_keyOf_16 rfl (lv_at hl 3 rfl) ?_
        refine g_callSi (rest := [.int (sub x3_1.toNatClampNeg), .int x2_1]) C (c_X0_unit l D d x3_1 h) 45 (lw_S q97 q98 q23 q99) (na := 1) (by decide +kernel) rfl (by decide) hw hl.1 rfl (Nat.le_of_ble_eq_true rfl) ⟨Nat.le_refl _, Nat.le_refl _⟩ dX0_keyOf_17 (fun r_4 H locs h hw => ?_)
        refine lv_imul hx hb dX0_keyOf_20 ?_
        refine lv_iadd hx hb dX0_keyOf_21 ?_
        refine lv_istore_n (lv' := [(2, .int (x2_1 + ((sub x3_1.toNatClampNeg) * r_4))), (0, .ref (a 0)), (1, .int z1), (3, .int x3_1)]) hx hb dX0_keyOf_22 rfl hl (by decide) rfl (fun ls hl => ?_)
        refine lv_iinc (v := (x3_1 + 1)) (lv' := [(3, .int (x3_1 + 1)), (2, .int (x2_1 + ((sub x3_1.toNatClampNeg) * r_4))), (0, .ref (a 0)), (1, .int z1)]) hx hb dX0_keyOf_23 hl (k := 3) rfl rfl (by decide) rfl (fun ls hl => ?_)
        refine lv_goto (tgt := 4) hx hb dX0_keyOf_26 (by decide) ?_
        exact ih_1 _ _ _ _ _ (Nat.lt_of_lt_of_le h.2 (Nat.le_of_lt_succ hk_1)) h.1 hw (lv_sub hl [2, 3, 1, 0] rfl)
  exact loop_1 _ _ _ _ _ _ (Nat.lt_succ_self _) h0_1 hw (lv_sub hl [2, 3, 1, 0] rfl)
set_option maxHeartbeats 4000000 in
set_option maxRecDepth 100000 in
theorem c_X0_seek (l : Launch) (D : va_G) (a : Nat → Nat) (d : ClassId) (dep : Int32) (sub : Nat → Int32) (lv : Int32) (siz : Nat → Int32) (ky : Nat → Int32) (va : Nat → Int32) (tot : Int32) (lf : Int32) (sl : Int32) (mk : Nat → Int32) (mv : Nat → Int32) (pk : Nat → Int32) (pv : Nat → Int32) (z1 : Int32) {K : Int32 → Int32 → Prop} (h : X0_seek_w lv siz ky z1 K) : CTv l yX0_seek cX0_seek 5  (gRm 0 0) D d [.ref (a 0), .int z1] (gT a d dep sub lv siz ky va tot lf sl mk mv pk pv) (S := Int32 × Int32) (fun (u : Int32 × Int32) => K u.1 u.2) (fun u => gT a d dep sub lv siz ky va tot u.1 u.2 mk mv pk pv) := by
  refine gEnter_v (by decide) (Nat.le_of_ble_eq_true rfl) ?_
  intro p e s m args below meth c A Q ls C ret hl hw
  have C : gCx RX0 cX0_seek 5 none D d A p s m args meth c := C
  have hx := C.1.1
  have hb := C.1.2.1
  have hown := C.1.2.2.2.1
  have hts := C.1.2.2.2.2
  have hl : lv_has ls 5 [(0, .ref (a 0)), (1, .int z1)] := hl
  unfold X0_seek_w at h
  refine lv_iconst (v := 0) hx hb dX0_seek_0 (by decide) ?_
  refine lv_istore_n (lv' := [(2, .int 0), (0, .ref (a 0)), (1, .int z1)]) hx hb dX0_seek_1 rfl hl (by decide) rfl (fun ls hl => ?_)
  refine lv_aload_n hx hb dX0_seek_2 rfl (lv_at hl 1 rfl) ?_
  refine gt_get_lv C hw dX0_seek_3 ?_
  refine lv_iconst (v := 1) hx hb dX0_seek_6 (by decide) ?_
  refine lv_isub hx hb dX0_seek_7 ?_
  refine lv_istore_n (lv' := [(3, .int (lv - 1)), (2, .int 0), (0, .ref (a 0)), (1, .int z1)]) hx hb dX0_seek_8 rfl hl (by decide) rfl (fun ls hl => ?_)
  obtain ⟨I1, μ1, h0_1, hI_1⟩ := h
  have loop_1 : ∀ (k : Nat) (x2_1 : Int32) (x3_1 : Int32) (H : Heap) (locs : List Loc) (ls : Array Slot), μ1 x2_1 x3_1 < k → I1 x2_1 x3_1 → gSt D A s (gT a d dep sub lv siz ky va tot lf sl mk mv pk pv) H locs → lv_has ls 5 [(0, .ref (a 0)), (1, .int z1), (2, .int x2_1), (3, .int x3_1)] → W p l e (gRm 0 0) s m args below meth c H locs 0 0 Q (F0 m 9 ls []) := by
    intro k
    induction k with
    | zero => intro x2_1 x3_1 H locs ls hk; exact absurd hk (Nat.not_lt_zero _)
    | succ k ih_1 =>
      intro x2_1 x3_1 H locs ls hk_1 hi hw hl
      have h := hI_1 x2_1 x3_1 hi
      refine lv_iload_n hx hb dX0_seek_9 rfl (lv_at hl 2 rfl) ?_
      refine lv_iload_n hx hb dX0_seek_10 rfl (lv_at hl 3 rfl) ?_
      refine lv_icmp_ge (tgt := 51) hx hb dX0_seek_11 (by decide) (fun c2 => ?_) (fun c2 => ?_)
      · have h := h.1 c2
        refine lv_aload_n hx hb dX0_seek_51 rfl (lv_at hl 0 rfl) ?_
        refine lv_iload_n hx hb dX0_seek_52 rfl (lv_at hl 2 rfl) ?_
        refine gt_put_lf C hw dX0_seek_53 (fun H locs hw => ?_)
        refine lv_aload_n hx hb dX0_seek_56 rfl (lv_at hl 0 rfl) ?_
        refine lv_iconst (v := 0) hx hb dX0_seek_57 (by decide) ?_
        refine gt_put_sl C hw dX0_seek_58 (fun H locs hw => ?_)
        obtain ⟨J3, hJ_3, h⟩ := h
        have join_3 : ∀ (sl_3 : Int32) (H : Heap) (locs : List Loc) (ls : Array Slot), J3 sl_3 → gSt D A s (gT a d dep sub lv siz ky va tot x2_1 sl_3 mk mv pk pv) H locs → lv_has ls 5 [(0, .ref (a 0))] → W p l e (gRm 0 0) s m args below meth c H locs 0 0 Q (F0 m 111 ls []) := by
          intro sl_3 H locs ls hi hw hl
          have h := hJ_3 sl_3 hi
          refine lv_aload_n hx hb dX0_seek_111 rfl (lv_at hl 0 rfl) ?_
          refine gt_get_sl C hw dX0_seek_112 ?_
          refine lv_aload_n hx hb dX0_seek_115 rfl (lv_at hl 0 rfl) ?_
          refine gt_get_siz C hw dX0_seek_116 ?_
          refine lv_aload_n hx hb dX0_seek_119 rfl (lv_at hl 0 rfl) ?_
          refine gt_get_lf C hw dX0_seek_120 ?_
          have b4 := h.1
          have h := h.2
          refine gt_ald_siz C hw b4 dX0_seek_123 ?_
          refine lv_icmp_ne (tgt := 155) hx hb dX0_seek_124 (by decide) (fun c5 => ?_) (fun c5 => ?_)
          · have h := h.1 c5
            exact ret (x2_1, sl_3) _ _ _ _ h hw dX0_seek_155
          · have h := h.2 c5
            refine lv_aload_n hx hb dX0_seek_127 rfl (lv_at hl 0 rfl) ?_
            refine gt_get_lf C hw dX0_seek_128 ?_
            refine lv_iconst (v := 1) hx hb dX0_seek_131 (by decide) ?_
            refine lv_iadd hx hb dX0_seek_132 ?_
            refine lv_aload_n hx hb dX0_seek_133 rfl (lv_at hl 0 rfl) ?_
            refine gt_get_lv C hw dX0_seek_134 ?_
            refine lv_icmp_ge (tgt := 155) hx hb dX0_seek_137 (by decide) (fun c6 => ?_) (fun c6 => ?_)
            · have h := h.1 c6
              exact ret (x2_1, sl_3) _ _ _ _ h hw dX0_seek_155
            · have h := h.2 c6
              refine lv_aload_n hx hb dX0_seek_140 rfl (lv_at hl 0 rfl) ?_
              refine lv_dup hx hb dX0_seek_141 rfl ?_
              refine gt_get_lf C hw dX0_seek_142 ?_
              refine lv_iconst (v := 1) hx hb dX0_seek_145 (by decide) ?_
              refine lv_iadd hx hb dX0_seek_146 ?_
              refine gt_put_lf C hw dX0_seek_147 (fun H locs hw => ?_)
              refine lv_aload_n hx hb dX0_seek_150 rfl (lv_at hl 0 rfl) ?_
              refine lv_iconst (v := 0) hx hb dX0_seek_151 (by decide) ?_
              refine gt_put_sl C hw dX0_seek_152 (fun H locs hw => ?_)
              exact ret ((x2_1 + 1), 0) _ _ _ _ h hw dX0_seek_155
        obtain ⟨I7, μ7, h0_7, hI_7⟩ := h
        have loop_7 : ∀ (k : Nat) (sl_7 : Int32) (H : Heap) (locs : List Loc) (ls : Array Slot), μ7 sl_7 < k → I7 sl_7 → gSt D A s (gT a d dep sub lv siz ky va tot x2_1 sl_7 mk mv pk pv) H locs → lv_has ls 5 [(0, .ref (a 0)), (1, .int z1)] → W p l e (gRm 0 0) s m args below meth c H locs 0 0 Q (F0 m 61 ls []) := by
          intro k
          induction k with
          | zero => intro sl_7 H locs ls hk; exact absurd hk (Nat.not_lt_zero _)
          | succ k ih_7 =>
            intro sl_7 H locs ls hk_7 hi hw hl
            have h := hI_7 sl_7 hi
            refine lv_aload_n hx hb dX0_seek_61 rfl (lv_at hl 0 rfl) ?_
            refine gt_get_sl C hw dX0_seek_62 ?_
            refine lv_aload_n hx hb dX0_seek_65 rfl (lv_at hl 0 rfl) ?_
            refine gt_get_siz C hw dX0_seek_66 ?_
            refine lv_aload_n hx hb dX0_seek_69 rfl (lv_at hl 0 rfl) ?_
            refine gt_get_lf C hw dX0_seek_70 ?_
            have b8 := h.1
            have h := h.2
            refine gt_ald_siz C hw b8 dX0_seek_73 ?_
            refine lv_icmp_ge (tgt := 111) hx hb dX0_seek_74 (by decide) (fun c9 => ?_) (fun c9 => ?_)
            · have h := h.1 c9
              exact join_3 _ _ _ _ h hw (lv_sub hl [0] rfl)
            · have h := h.2 c9
              refine lv_aload_n hx hb dX0_seek_77 rfl (lv_at hl 0 rfl) ?_
              refine gt_get_ky C hw dX0_seek_78 ?_
              refine lv_aload_n hx hb dX0_seek_81 rfl (lv_at hl 0 rfl) ?_
              refine gt_get_lf C hw dX0_seek_82 ?_
              refine lv_bipush (v := 8) hx hb dX0_seek_85 (by decide) ?_
              refine lv_imul hx hb dX0_seek_87 ?_
              refine lv_aload_n hx hb dX0_seek_88 rfl (lv_at hl 0 rfl) ?_
              refine gt_get_sl C hw dX0_seek_89 ?_
              refine lv_iadd hx hb dX0_seek_92 ?_
              have b10 := h.1
              have h := h.2
              refine gt_ald_ky C hw b10 dX0_seek_93 ?_
              refine lv_iload_n hx hb dX0_seek_94 rfl (lv_at hl 1 rfl) ?_
              refine lv_icmp_ge (tgt := 111) hx hb dX0_seek_95 (by decide) (fun c11 => ?_) (fun c11 => ?_)
              · have h := h.1 c11
                exact join_3 _ _ _ _ h hw (lv_sub hl [0] rfl)
              · have h := h.2 c11
                refine lv_aload_n hx hb dX0_seek_98 rfl (lv_at hl 0 rfl) ?_
                refine lv_dup hx hb dX0_seek_99 rfl ?_
                refine gt_get_sl C hw dX0_seek_100 ?_
                refine lv_iconst (v := 1) hx hb dX0_seek_103 (by decide) ?_
                refine lv_iadd hx hb dX0_seek_104 ?_
                refine gt_put_sl C hw dX0_seek_105 (fun H locs hw => ?_)
                refine lv_goto (tgt := 61) hx hb dX0_seek_108 (by decide) ?_
                exact ih_7 _ _ _ _ (Nat.lt_of_lt_of_le h.2 (Nat.le_of_lt_succ hk_7)) h.1 hw (lv_sub hl [0, 1] rfl)
        exact loop_7 _ _ _ _ _ (Nat.lt_succ_self _) h0_7 hw (lv_sub hl [0, 1] rfl)
      · have h := h.2 c2
        refine lv_iload_n hx hb dX0_seek_14 rfl (lv_at hl 2 rfl) ?_
        refine lv_iload_n hx hb dX0_seek_15 rfl (lv_at hl 3 rfl) ?_
        refine lv_iadd hx hb dX0_seek_16 ?_
        refine lv_iconst (v := 1) hx hb dX0_seek_17 (by decide) ?_
        refine lv_iadd hx hb dX0_seek_18 ?_
        refine lv_iconst (v := 2) hx hb dX0_seek_19 (by decide) ?_
        refine lv_idiv hx hb dX0_seek_20 (by decide) ?_
        refine lv_istore (lv' := [(4, .int (((x2_1 + x3_1) + 1) / 2)), (0, .ref (a 0)), (1, .int z1), (2, .int x2_1), (3, .int x3_1)]) hx hb dX0_seek_21 hl (by decide) rfl (fun ls hl => ?_)
        refine lv_aload_n hx hb dX0_seek_23 rfl (lv_at hl 1 rfl) ?_
        refine gt_get_ky C hw dX0_seek_24 ?_
        refine lv_iload hx hb dX0_seek_27 (lv_at hl 0 rfl) ?_
        refine lv_bipush (v := 8) hx hb dX0_seek_29 (by decide) ?_
        refine lv_imul hx hb dX0_seek_31 ?_
        have b12 := h.1
        have h := h.2
        refine gt_ald_ky C hw b12 dX0_seek_32 ?_
        refine lv_iload_n hx hb dX0_seek_33 rfl (lv_at hl 2 rfl) ?_
        refine lv_icmp_gt (tgt := 43) hx hb dX0_seek_34 (by decide) (fun c13 => ?_) (fun c13 => ?_)
        · have h := h.1 c13
          refine lv_iload hx hb dX0_seek_43 (lv_at hl 0 rfl) ?_
          refine lv_iconst (v := 1) hx hb dX0_seek_45 (by decide) ?_
          refine lv_isub hx hb dX0_seek_46 ?_
          refine lv_istore_n (lv' := [(3, .int ((((x2_1 + x3_1) + 1) / 2) - 1)), (4, .int (((x2_1 + x3_1) + 1) / 2)), (0, .ref (a 0)), (1, .int z1), (2, .int x2_1)]) hx hb dX0_seek_47 rfl hl (by decide) rfl (fun ls hl => ?_)
          refine lv_goto (tgt := 9) hx hb dX0_seek_48 (by decide) ?_
          exact ih_1 _ _ _ _ _ (Nat.lt_of_lt_of_le h.2 (Nat.le_of_lt_succ hk_1)) h.1 hw (lv_sub hl [2, 3, 4, 0] rfl)
        · have h := h.2 c13
          refine lv_iload hx hb dX0_seek_37 (lv_at hl 0 rfl) ?_
          refine lv_istore_n (lv' := [(2, .int (((x2_1 + x3_1) + 1) / 2)), (4, .int (((x2_1 + x3_1) + 1) / 2)), (0, .ref (a 0)), (1, .int z1), (3, .int x3_1)]) hx hb dX0_seek_39 rfl hl (by decide) rfl (fun ls hl => ?_)
          refine lv_goto (tgt := 48) hx hb dX0_seek_40 (by decide) ?_
          refine lv_goto (tgt := 9) hx hb dX0_seek_48 (by decide) ?_
          exact ih_1 _ _ _ _ _ (Nat.lt_of_lt_of_le h.2 (Nat.le_of_lt_succ hk_1)) h.1 hw (lv_sub hl [2, 3, 0, 4] rfl)
  exact loop_1 _ _ _ _ _ _ (Nat.lt_succ_self _) h0_1 hw (lv_sub hl [2, 3, 1, 0] rfl)
set_option maxHeartbeats 4000000 in
set_option maxRecDepth 100000 in
theorem c_X0_found (l : Launch) (D : va_G) (a : Nat → Nat) (d : ClassId) (dep : Int32) (sub : Nat → Int32) (lv : Int32) (siz : Nat → Int32) (ky : Nat → Int32) (va : Nat → Int32) (tot : Int32) (lf : Int32) (sl : Int32) (mk : Nat → Int32) (mv : Nat → Int32) (pk : Nat → Int32) (pv : Nat → Int32) {K : Int32 → Prop} (h : X0_found_w siz ky lf sl K) : CTi l yX0_found cX0_found 1 (some .int)  (gRm 0 0) D d [.ref (a 0)] (gT a d dep sub lv siz ky va tot lf sl mk mv pk pv) (S := Unit) (fun (r : Int32) (u : Unit) => K r) (fun u => gT a d dep sub lv siz ky va tot lf sl mk mv pk pv) := by
  refine gEnter_i (by decide) (Nat.le_of_ble_eq_true rfl) ?_
  intro p e s m args below meth c A Q ls C ret hl hw
  have C : gCx RX0 cX0_found 1 (some .int) D d A p s m args meth c := C
  have hx := C.1.1
  have hb := C.1.2.1
  have hown := C.1.2.2.2.1
  have hts := C.1.2.2.2.2
  have hl : lv_has ls 1 [(0, .ref (a 0))] := hl
  unfold X0_found_w at h
  refine lv_aload_n hx hb dX0_found_0 rfl (lv_at hl 0 rfl) ?_
  refine gt_get_sl C hw dX0_found_1 ?_
  refine lv_aload_n hx hb dX0_found_4 rfl (lv_at hl 0 rfl) ?_
  refine gt_get_siz C hw dX0_found_5 ?_
  refine lv_aload_n hx hb dX0_found_8 rfl (lv_at hl 0 rfl) ?_
  refine gt_get_lf C hw dX0_found_9 ?_
  have b1 := h.1
  have h := h.2
  refine gt_ald_siz C hw b1 dX0_found_12 ?_
  refine lv_icmp_ge (tgt := 36) hx hb dX0_found_13 (by decide) (fun c2 => ?_) (fun c2 => ?_)
  · have h := h.1 c2
    refine lv_ldc (v := 2097152) hx hb hown (hts _ q112) dX0_found_36 ?_
    exact ret 2097152 () _ _ _ _ h rfl hw dX0_found_38
  · have h := h.2 c2
    refine lv_aload_n hx hb dX0_found_16 rfl (lv_at hl 0 rfl) ?_
    refine gt_get_ky C hw dX0_found_17 ?_
    refine lv_aload_n hx hb dX0_found_20 rfl (lv_at hl 0 rfl) ?_
    refine gt_get_lf C hw dX0_found_21 ?_
    refine lv_bipush (v := 8) hx hb dX0_found_24 (by decide) ?_
    refine lv_imul hx hb dX0_found_26 ?_
    refine lv_aload_n hx hb dX0_found_27 rfl (lv_at hl 0 rfl) ?_
    refine gt_get_sl C hw dX0_found_28 ?_
    refine lv_iadd hx hb dX0_found_31 ?_
    have b3 := h.1
    have h := h.2
    refine gt_ald_ky C hw b3 dX0_found_32 ?_
    refine lv_goto (tgt := 38) hx hb dX0_found_33 (by decide) ?_
    exact ret (ky ((lf * 8) + sl).toNatClampNeg) () _ _ _ _ h rfl hw dX0_found_38
set_option maxHeartbeats 4000000 in
set_option maxRecDepth 100000 in
theorem c_X0_present (l : Launch) (D : va_G) (a : Nat → Nat) (d : ClassId) (dep : Int32) (sub : Nat → Int32) (lv : Int32) (siz : Nat → Int32) (ky : Nat → Int32) (va : Nat → Int32) (tot : Int32) (lf : Int32) (sl : Int32) (mk : Nat → Int32) (mv : Nat → Int32) (pk : Nat → Int32) (pv : Nat → Int32) (z1 : Int32) {K : Int32 → Int32 → Int32 → Prop} (h : X0_present_w lv siz ky z1 K) : CTi l yX0_present cX0_present 3 (some .boolean)  (gRm 1 24) D d [.ref (a 0), .int z1] (gT a d dep sub lv siz ky va tot lf sl mk mv pk pv) (S := Int32 × Int32) (fun (r : Int32) (u : Int32 × Int32) => K r u.1 u.2) (fun u => gT a d dep sub lv siz ky va tot u.1 u.2 mk mv pk pv) := by
  refine gEnter_i (by decide) (Nat.le_of_ble_eq_true rfl) ?_
  intro p e s m args below meth c A Q ls C ret hl hw
  have C : gCx RX0 cX0_present 3 (some .boolean) D d A p s m args meth c := C
  have hx := C.1.1
  have hb := C.1.2.1
  have hown := C.1.2.2.2.1
  have hts := C.1.2.2.2.2
  have hl : lv_has ls 3 [(0, .ref (a 0)), (1, .int z1)] := hl
  unfold X0_present_w at h
  refine lv_aload_n hx hb dX0_present_0 rfl (lv_at hl 0 rfl) ?_
  refine lv_iload_n hx hb dX0_present_1 rfl (lv_at hl 1 rfl) ?_
  refine g_callVv (rest := []) C (c_X0_seek l D a d _ _ _ _ _ _ _ _ _ _ _ _ _ z1 h) 59 RX0 (lw_V q104 q106 qs2 q23 q107) (na := 1) (by decide +kernel) rfl (by decide) 0 rfl rfl rfl hw hl.1 rfl (Nat.le_of_ble_eq_true rfl) ⟨Nat.le_refl _, Nat.le_refl _⟩ dX0_present_2 (fun u_1 H locs h hw => ?_)
  obtain ⟨lf_1, sl_1⟩ := u_1
  have hw : gSt D A s (gT a d dep sub lv siz ky va tot lf_1 sl_1 mk mv pk pv) H locs := hw
  refine lv_aload_n hx hb dX0_present_5 rfl (lv_at hl 0 rfl) ?_
  refine g_callVi (rest := []) C (c_X0_found l D a d _ _ _ _ _ _ _ _ _ _ _ _ _  h) 63 RX0 (lw_V q108 q110 qs3 q23 q111) (na := 0) (by decide +kernel) rfl (by decide) 0 rfl rfl rfl hw hl.1 rfl (Nat.le_of_ble_eq_true rfl) ⟨Nat.le_refl _, Nat.le_refl _⟩ dX0_present_6 (fun r_2 u_2 H locs h hw => ?_)
  refine lv_istore_n (lv' := [(2, .int r_2), (0, .ref (a 0)), (1, .int z1)]) hx hb dX0_present_9 rfl hl (by decide) rfl (fun ls hl => ?_)
  refine lv_iload_n hx hb dX0_present_10 rfl (lv_at hl 0 rfl) ?_
  refine lv_iload_n hx hb dX0_present_11 rfl (lv_at hl 2 rfl) ?_
  refine lv_icmp_ne (tgt := 19) hx hb dX0_present_12 (by decide) (fun c3 => ?_) (fun c3 => ?_)
  · have h := h.1 c3
    refine lv_iconst (v := 0) hx hb dX0_present_19 (by decide) ?_
    exact ret 0 (lf_1, sl_1) _ _ _ _ h rfl hw dX0_present_20
  · have h := h.2 c3
    refine lv_iconst (v := 1) hx hb dX0_present_15 (by decide) ?_
    refine lv_goto (tgt := 20) hx hb dX0_present_16 (by decide) ?_
    exact ret 1 (lf_1, sl_1) _ _ _ _ h rfl hw dX0_present_20
set_option maxHeartbeats 4000000 in
set_option maxRecDepth 100000 in
theorem c_X0_copyLeaf (l : Launch) (D : va_G) (a : Nat → Nat) (d : ClassId) (dep : Int32) (sub : Nat → Int32) (lv : Int32) (siz : Nat → Int32) (ky : Nat → Int32) (va : Nat → Int32) (tot : Int32) (lf : Int32) (sl : Int32) (mk : Nat → Int32) (mv : Nat → Int32) (pk : Nat → Int32) (pv : Nat → Int32) (z1 : Int32) (z2 : Int32) {K : (Nat → Int32) → (Nat → Int32) → (Nat → Int32) → Prop} (h : X0_copyLeaf_w siz ky va z1 z2 K) : CTv l yX0_copyLeaf cX0_copyLeaf 4  (gRm 0 0) D d [.ref (a 0), .int z1, .int z2] (gT a d dep sub lv siz ky va tot lf sl mk mv pk pv) (S := (Nat → Int32) × (Nat → Int32) × (Nat → Int32)) (fun (u : (Nat → Int32) × (Nat → Int32) × (Nat → Int32)) => K u.1 u.2.1 u.2.2) (fun u => gT a d dep sub lv u.1 u.2.1 u.2.2 tot lf sl mk mv pk pv) := by
  refine gEnter_v (by decide) (Nat.le_of_ble_eq_true rfl) ?_
  intro p e s m args below meth c A Q ls C ret hl hw
  have C : gCx RX0 cX0_copyLeaf 4 none D d A p s m args meth c := C
  have hx := C.1.1
  have hb := C.1.2.1
  have hown := C.1.2.2.2.1
  have hts := C.1.2.2.2.2
  have hl : lv_has ls 4 [(0, .ref (a 0)), (1, .int z1), (2, .int z2)] := hl
  unfold X0_copyLeaf_w at h
  refine lv_aload_n hx hb dX0_copyLeaf_0 rfl (lv_at hl 0 rfl) ?_
  refine gt_get_siz C hw dX0_copyLeaf_1 ?_
  refine lv_iload_n hx hb dX0_copyLeaf_4 rfl (lv_at hl 2 rfl) ?_
  refine lv_aload_n hx hb dX0_copyLeaf_5 rfl (lv_at hl 0 rfl) ?_
  refine gt_get_siz C hw dX0_copyLeaf_6 ?_
  refine lv_iload_n hx hb dX0_copyLeaf_9 rfl (lv_at hl 1 rfl) ?_
  have b1 := h.1
  have h := h.2
  refine gt_ald_siz C hw b1 dX0_copyLeaf_10 ?_
  have b2 := h.1
  have h := h.2
  refine gt_ast_siz C hw b2 dX0_copyLeaf_11 (fun H locs hw => ?_)
  refine lv_iconst (v := 0) hx hb dX0_copyLeaf_12 (by decide) ?_
  refine lv_istore_n (lv' := [(3, .int 0), (0, .ref (a 0)), (1, .int z1), (2, .int z2)]) hx hb dX0_copyLeaf_13 rfl hl (by decide) rfl (fun ls hl => ?_)
  obtain ⟨I3, μ3, h0_3, hI_3⟩ := h
  have loop_3 : ∀ (k : Nat) (x3_3 : Int32) (ky_3 : Nat → Int32) (va_3 : Nat → Int32) (H : Heap) (locs : List Loc) (ls : Array Slot), μ3 x3_3 ky_3 va_3 < k → I3 x3_3 ky_3 va_3 → gSt D A s (gT a d dep sub lv (upd siz z2.toNatClampNeg (siz z1.toNatClampNeg)) ky_3 va_3 tot lf sl mk mv pk pv) H locs → lv_has ls 4 [(0, .ref (a 0)), (1, .int z1), (2, .int z2), (3, .int x3_3)] → W p l e (gRm 0 0) s m args below meth c H locs 0 0 Q (F0 m 14 ls []) := by
    intro k
    induction k with
    | zero => intro x3_3 ky_3 va_3 H locs ls hk; exact absurd hk (Nat.not_lt_zero _)
    | succ k ih_3 =>
      intro x3_3 ky_3 va_3 H locs ls hk_3 hi hw hl
      have h := hI_3 x3_3 ky_3 va_3 hi
      refine lv_iload_n hx hb dX0_copyLeaf_14 rfl (lv_at hl 3 rfl) ?_
      refine lv_bipush (v := 8) hx hb dX0_copyLeaf_15 (by decide) ?_
      refine lv_icmp_ge (tgt := 70) hx hb dX0_copyLeaf_17 (by decide) (fun c4 => ?_) (fun c4 => ?_)
      · have h := h.1 c4
        exact ret ((upd siz z2.toNatClampNeg (siz z1.toNatClampNeg)), ky_3, va_3) _ _ _ _ h hw dX0_copyLeaf_70
      · have h := h.2 c4
        refine lv_aload_n hx hb dX0_copyLeaf_20 rfl (lv_at hl 0 rfl) ?_
        refine gt_get_ky C hw dX0_copyLeaf_21 ?_
        refine lv_iload_n hx hb dX0_copyLeaf_24 rfl (lv_at hl 2 rfl) ?_
        refine lv_bipush (v := 8) hx hb dX0_copyLeaf_25 (by decide) ?_
        refine lv_imul hx hb dX0_copyLeaf_27 ?_
        refine lv_iload_n hx hb dX0_copyLeaf_28 rfl (lv_at hl 3 rfl) ?_
        refine lv_iadd hx hb dX0_copyLeaf_29 ?_
        refine lv_aload_n hx hb dX0_copyLeaf_30 rfl (lv_at hl 0 rfl) ?_
        refine gt_get_ky C hw dX0_copyLeaf_31 ?_
        refine lv_iload_n hx hb dX0_copyLeaf_34 rfl (lv_at hl 1 rfl) ?_
        refine lv_bipush (v := 8) hx hb dX0_copyLeaf_35 (by decide) ?_
        refine lv_imul hx hb dX0_copyLeaf_37 ?_
        refine lv_iload_n hx hb dX0_copyLeaf_38 rfl (lv_at hl 3 rfl) ?_
        refine lv_iadd hx hb dX0_copyLeaf_39 ?_
        have b5 := h.1
        have h := h.2
        refine gt_ald_ky C hw b5 dX0_copyLeaf_40 ?_
        have b6 := h.1
        have h := h.2
        refine gt_ast_ky C hw b6 dX0_copyLeaf_41 (fun H locs hw => ?_)
        refine lv_aload_n hx hb dX0_copyLeaf_42 rfl (lv_at hl 0 rfl) ?_
        refine gt_get_va C hw dX0_copyLeaf_43 ?_
        refine lv_iload_n hx hb dX0_copyLeaf_46 rfl (lv_at hl 2 rfl) ?_
        refine lv_bipush (v := 8) hx hb dX0_copyLeaf_47 (by decide) ?_
        refine lv_imul hx hb dX0_copyLeaf_49 ?_
        refine lv_iload_n hx hb dX0_copyLeaf_50 rfl (lv_at hl 3 rfl) ?_
        refine lv_iadd hx hb dX0_copyLeaf_51 ?_
        refine lv_aload_n hx hb dX0_copyLeaf_52 rfl (lv_at hl 0 rfl) ?_
        refine gt_get_va C hw dX0_copyLeaf_53 ?_
        refine lv_iload_n hx hb dX0_copyLeaf_56 rfl (lv_at hl 1 rfl) ?_
        refine lv_bipush (v := 8) hx hb dX0_copyLeaf_57 (by decide) ?_
        refine lv_imul hx hb dX0_copyLeaf_59 ?_
        refine lv_iload_n hx hb dX0_copyLeaf_60 rfl (lv_at hl 3 rfl) ?_
        refine lv_iadd hx hb dX0_copyLeaf_61 ?_
        have b7 := h.1
        have h := h.2
        refine gt_ald_va C hw b7 dX0_copyLeaf_62 ?_
        have b8 := h.1
        have h := h.2
        refine gt_ast_va C hw b8 dX0_copyLeaf_63 (fun H locs hw => ?_)
        refine lv_iinc (v := (x3_3 + 1)) (lv' := [(3, .int (x3_3 + 1)), (0, .ref (a 0)), (1, .int z1), (2, .int z2)]) hx hb dX0_copyLeaf_64 hl (k := 3) rfl rfl (by decide) rfl (fun ls hl => ?_)
        refine lv_goto (tgt := 14) hx hb dX0_copyLeaf_67 (by decide) ?_
        exact ih_3 _ _ _ _ _ _ (Nat.lt_of_lt_of_le h.2 (Nat.le_of_lt_succ hk_3)) h.1 hw (lv_sub hl [1, 2, 3, 0] rfl)
  exact loop_3 _ _ _ _ _ _ _ (Nat.lt_succ_self _) h0_3 hw (lv_sub hl [1, 2, 3, 0] rfl)
end
section
set_option maxHeartbeats 4000000 in
set_option maxRecDepth 100000 in
theorem c_X0_repack (l : Launch) (D : va_G) (a : Nat → Nat) (d : ClassId) (dep : Int32) (sub : Nat → Int32) (lv : Int32) (siz : Nat → Int32) (ky : Nat → Int32) (va : Nat → Int32) (tot : Int32) (lf : Int32) (sl : Int32) (mk : Nat → Int32) (mv : Nat → Int32) (pk : Nat → Int32) (pv : Nat → Int32) {K : Int32 → (Nat → Int32) → (Nat → Int32) → (Nat → Int32) → (Nat → Int32) → (Nat → Int32) → Prop} (h : X0_repack_w lv siz ky va pk pv K) : CTv l yX0_repack cX0_repack 4  (gRm 0 0) D d [.ref (a 0)] (gT a d dep sub lv siz ky va tot lf sl mk mv pk pv) (S := Int32 × (Nat → Int32) × (Nat → Int32) × (Nat → Int32) × (Nat → Int32) × (Nat → Int32)) (fun (u : Int32 × (Nat → Int32) × (Nat → Int32) × (Nat → Int32) × (Nat → Int32) × (Nat → Int32)) => K u.1 u.2.1 u.2.2.1 u.2.2.2.1 u.2.2.2.2.1 u.2.2.2.2.2) (fun u => gT a d dep sub u.1 u.2.1 u.2.2.1 u.2.2.2.1 tot lf sl mk mv u.2.2.2.2.1 u.2.2.2.2.2) := by
  refine gEnter_v (by decide) (Nat.le_of_ble_eq_true rfl) ?_
  intro p e s m args below meth c A Q ls C ret hl hw
  have C : gCx RX0 cX0_repack 4 none D d A p s m args meth c := C
  have hx := C.1.1
  have hb := C.1.2.1
  have hown := C.1.2.2.2.1
  have hts := C.1.2.2.2.2
  have hl : lv_has ls 4 [(0, .ref (a 0))] := hl
  unfold X0_repack_w at h
  refine lv_iconst (v := 0) hx hb dX0_repack_0 (by decide) ?_
  refine lv_istore_n (lv' := [(1, .int 0), (0, .ref (a 0))]) hx hb dX0_repack_1 rfl hl (by decide) rfl (fun ls hl => ?_)
  refine lv_iconst (v := 0) hx hb dX0_repack_2 (by decide) ?_
  refine lv_istore_n (lv' := [(2, .int 0), (1, .int 0), (0, .ref (a 0))]) hx hb dX0_repack_3 rfl hl (by decide) rfl (fun ls hl => ?_)
  obtain ⟨I1, μ1, h0_1, hI_1⟩ := h
  have loop_1 : ∀ (k : Nat) (x1_1 : Int32) (x2_1 : Int32) (pk_1 : Nat → Int32) (pv_1 : Nat → Int32) (H : Heap) (locs : List Loc) (ls : Array Slot), μ1 x1_1 x2_1 pk_1 pv_1 < k → I1 x1_1 x2_1 pk_1 pv_1 → gSt D A s (gT a d dep sub lv siz ky va tot lf sl mk mv pk_1 pv_1) H locs → lv_has ls 4 [(0, .ref (a 0)), (1, .int x1_1), (2, .int x2_1)] → W p l e (gRm 0 0) s m args below meth c H locs 0 0 Q (F0 m 4 ls []) := by
    intro k
    induction k with
    | zero => intro x1_1 x2_1 pk_1 pv_1 H locs ls hk; exact absurd hk (Nat.not_lt_zero _)
    | succ k ih_1 =>
      intro x1_1 x2_1 pk_1 pv_1 H locs ls hk_1 hi hw hl
      have h := hI_1 x1_1 x2_1 pk_1 pv_1 hi
      refine lv_iload_n hx hb dX0_repack_4 rfl (lv_at hl 2 rfl) ?_
      refine lv_aload_n hx hb dX0_repack_5 rfl (lv_at hl 0 rfl) ?_
      refine gt_get_lv C hw dX0_repack_6 ?_
      refine lv_icmp_ge (tgt := 73) hx hb dX0_repack_9 (by decide) (fun c2 => ?_) (fun c2 => ?_)
      · have h := h.1 c2
        obtain ⟨J3, hJ_3, h⟩ := h
        have join_3 : ∀ (lv_3 : Int32) (H : Heap) (locs : List Loc) (ls : Array Slot), J3 lv_3 → gSt D A s (gT a d dep sub lv_3 siz ky va tot lf sl mk mv pk_1 pv_1) H locs → lv_has ls 4 [(0, .ref (a 0)), (1, .int x1_1)] → W p l e (gRm 0 0) s m args below meth c H locs 0 0 Q (F0 m 91 ls []) := by
          intro lv_3 H locs ls hi hw hl
          have h := hJ_3 lv_3 hi
          refine lv_iconst (v := 0) hx hb dX0_repack_91 (by decide) ?_
          refine lv_istore_n (lv' := [(2, .int 0), (0, .ref (a 0)), (1, .int x1_1)]) hx hb dX0_repack_92 rfl hl (by decide) rfl (fun ls hl => ?_)
          obtain ⟨I4, μ4, h0_4, hI_4⟩ := h
          have loop_4 : ∀ (k : Nat) (x2_4 : Int32) (siz_4 : Nat → Int32) (H : Heap) (locs : List Loc) (ls : Array Slot), μ4 x2_4 siz_4 < k → I4 x2_4 siz_4 → gSt D A s (gT a d dep sub lv_3 siz_4 ky va tot lf sl mk mv pk_1 pv_1) H locs → lv_has ls 4 [(0, .ref (a 0)), (1, .int x1_1), (2, .int x2_4)] → W p l e (gRm 0 0) s m args below meth c H locs 0 0 Q (F0 m 93 ls []) := by
            intro k
            induction k with
            | zero => intro x2_4 siz_4 H locs ls hk; exact absurd hk (Nat.not_lt_zero _)
            | succ k ih_4 =>
              intro x2_4 siz_4 H locs ls hk_4 hi hw hl
              have h := hI_4 x2_4 siz_4 hi
              refine lv_iload_n hx hb dX0_repack_93 rfl (lv_at hl 2 rfl) ?_
              refine lv_aload_n hx hb dX0_repack_94 rfl (lv_at hl 0 rfl) ?_
              refine gt_get_lv C hw dX0_repack_95 ?_
              refine lv_icmp_ge (tgt := 114) hx hb dX0_repack_98 (by decide) (fun c5 => ?_) (fun c5 => ?_)
              · have h := h.1 c5
                refine lv_iconst (v := 0) hx hb dX0_repack_114 (by decide) ?_
                refine lv_istore_n (lv' := [(2, .int 0), (0, .ref (a 0)), (1, .int x1_1)]) hx hb dX0_repack_115 rfl hl (by decide) rfl (fun ls hl => ?_)
                obtain ⟨I6, μ6, h0_6, hI_6⟩ := h
                have loop_6 : ∀ (k : Nat) (x2_6 : Int32) (siz_6 : Nat → Int32) (ky_6 : Nat → Int32) (va_6 : Nat → Int32) (H : Heap) (locs : List Loc) (ls : Array Slot), μ6 x2_6 siz_6 ky_6 va_6 < k → I6 x2_6 siz_6 ky_6 va_6 → gSt D A s (gT a d dep sub lv_3 siz_6 ky_6 va_6 tot lf sl mk mv pk_1 pv_1) H locs → lv_has ls 4 [(0, .ref (a 0)), (1, .int x1_1), (2, .int x2_6)] → W p l e (gRm 0 0) s m args below meth c H locs 0 0 Q (F0 m 116 ls []) := by
                  intro k
                  induction k with
                  | zero => intro x2_6 siz_6 ky_6 va_6 H locs ls hk; exact absurd hk (Nat.not_lt_zero _)
                  | succ k ih_6 =>
                    intro x2_6 siz_6 ky_6 va_6 H locs ls hk_6 hi hw hl
                    have h := hI_6 x2_6 siz_6 ky_6 va_6 hi
                    refine lv_iload_n hx hb dX0_repack_116 rfl (lv_at hl 2 rfl) ?_
                    refine lv_iload_n hx hb dX0_repack_117 rfl (lv_at hl 1 rfl) ?_
                    refine lv_icmp_ge (tgt := 177) hx hb dX0_repack_118 (by decide) (fun c7 => ?_) (fun c7 => ?_)
                    · have h := h.1 c7
                      exact ret (lv_3, siz_6, ky_6, va_6, pk_1, pv_1) _ _ _ _ h hw dX0_repack_177
                    · have h := h.2 c7
                      refine lv_iload_n hx hb dX0_repack_121 rfl (lv_at hl 2 rfl) ?_
                      refine lv_bipush (v := 6) hx hb dX0_repack_122 (by decide) ?_
                      refine lv_idiv hx hb dX0_repack_124 (by decide) ?_
                      refine lv_bipush (v := 8) hx hb dX0_repack_125 (by decide) ?_
                      refine lv_imul hx hb dX0_repack_127 ?_
                      refine lv_iload_n hx hb dX0_repack_128 rfl (lv_at hl 2 rfl) ?_
                      refine lv_bipush (v := 6) hx hb dX0_repack_129 (by decide) ?_
                      refine lv_irem hx hb dX0_repack_131 (by decide) ?_
                      refine lv_iadd hx hb dX0_repack_132 ?_
                      refine lv_istore_n (lv' := [(3, .int (((x2_6 / 6) * 8) + (x2_6 - x2_6 / 6 * 6))), (0, .ref (a 0)), (1, .int x1_1), (2, .int x2_6)]) hx hb dX0_repack_133 rfl hl (by decide) rfl (fun ls hl => ?_)
                      refine lv_aload_n hx hb dX0_repack_134 rfl (lv_at hl 1 rfl) ?_
                      refine gt_get_ky C hw dX0_repack_135 ?_
                      refine lv_iload_n hx hb dX0_repack_138 rfl (lv_at hl 0 rfl) ?_
                      refine lv_aload_n hx hb dX0_repack_139 rfl (lv_at hl 1 rfl) ?_
                      refine gt_get_pk C hw dX0_repack_140 ?_
                      refine lv_iload_n hx hb dX0_repack_143 rfl (lv_at hl 3 rfl) ?_
                      have b8 := h.1
                      have h := h.2
                      refine gt_ald_pk C hw b8 dX0_repack_144 ?_
                      have b9 := h.1
                      have h := h.2
                      refine gt_ast_ky C hw b9 dX0_repack_145 (fun H locs hw => ?_)
                      refine lv_aload_n hx hb dX0_repack_146 rfl (lv_at hl 1 rfl) ?_
                      refine gt_get_va C hw dX0_repack_147 ?_
                      refine lv_iload_n hx hb dX0_repack_150 rfl (lv_at hl 0 rfl) ?_
                      refine lv_aload_n hx hb dX0_repack_151 rfl (lv_at hl 1 rfl) ?_
                      refine gt_get_pv C hw dX0_repack_152 ?_
                      refine lv_iload_n hx hb dX0_repack_155 rfl (lv_at hl 3 rfl) ?_
                      have b10 := h.1
                      have h := h.2
                      refine gt_ald_pv C hw b10 dX0_repack_156 ?_
                      have b11 := h.1
                      have h := h.2
                      refine gt_ast_va C hw b11 dX0_repack_157 (fun H locs hw => ?_)
                      refine lv_aload_n hx hb dX0_repack_158 rfl (lv_at hl 1 rfl) ?_
                      refine gt_get_siz C hw dX0_repack_159 ?_
                      refine lv_iload_n hx hb dX0_repack_162 rfl (lv_at hl 3 rfl) ?_
                      refine lv_bipush (v := 6) hx hb dX0_repack_163 (by decide) ?_
                      refine lv_idiv hx hb dX0_repack_165 (by decide) ?_
                      refine lv_dup2_11 hx hb dX0_repack_166 rfl rfl ?_
                      have b12 := h.1
                      have h := h.2
                      refine gt_ald_siz C hw b12 dX0_repack_167 ?_
                      refine lv_iconst (v := 1) hx hb dX0_repack_168 (by decide) ?_
                      refine lv_iadd hx hb dX0_repack_169 ?_
                      have b13 := h.1
                      have h := h.2
                      refine gt_ast_siz C hw b13 dX0_repack_170 (fun H locs hw => ?_)
                      refine lv_iinc (v := (x2_6 + 1)) (lv' := [(2, .int (x2_6 + 1)), (3, .int (((x2_6 / 6) * 8) + (x2_6 - x2_6 / 6 * 6))), (0, .ref (a 0)), (1, .int x1_1)]) hx hb dX0_repack_171 hl (k := 3) rfl rfl (by decide) rfl (fun ls hl => ?_)
                      refine lv_goto (tgt := 116) hx hb dX0_repack_174 (by decide) ?_
                      exact ih_6 _ _ _ _ _ _ _ (Nat.lt_of_lt_of_le h.2 (Nat.le_of_lt_succ hk_6)) h.1 hw (lv_sub hl [2, 3, 0] rfl)
                exact loop_6 _ _ _ _ _ _ _ _ (Nat.lt_succ_self _) h0_6 hw (lv_sub hl [1, 2, 0] rfl)
              · have h := h.2 c5
                refine lv_aload_n hx hb dX0_repack_101 rfl (lv_at hl 0 rfl) ?_
                refine gt_get_siz C hw dX0_repack_102 ?_
                refine lv_iload_n hx hb dX0_repack_105 rfl (lv_at hl 2 rfl) ?_
                refine lv_iconst (v := 0) hx hb dX0_repack_106 (by decide) ?_
                have b14 := h.1
                have h := h.2
                refine gt_ast_siz C hw b14 dX0_repack_107 (fun H locs hw => ?_)
                refine lv_iinc (v := (x2_4 + 1)) (lv' := [(2, .int (x2_4 + 1)), (0, .ref (a 0)), (1, .int x1_1)]) hx hb dX0_repack_108 hl (k := 2) rfl rfl (by decide) rfl (fun ls hl => ?_)
                refine lv_goto (tgt := 93) hx hb dX0_repack_111 (by decide) ?_
                exact ih_4 _ _ _ _ _ (Nat.lt_of_lt_of_le h.2 (Nat.le_of_lt_succ hk_4)) h.1 hw (lv_sub hl [1, 2, 0] rfl)
          exact loop_4 _ _ _ _ _ _ (Nat.lt_succ_self _) h0_4 hw (lv_sub hl [1, 2, 0] rfl)
        refine lv_aload_n hx hb dX0_repack_73 rfl (lv_at hl 0 rfl) ?_
        refine lv_iload_n hx hb dX0_repack_74 rfl (lv_at hl 1 rfl) ?_
        refine lv_if_ne (tgt := 82) hx hb dX0_repack_75 (by decide) (fun c15 => ?_) (fun c15 => ?_)
        · have h := h.1 c15
          refine lv_iload_n hx hb dX0_repack_82 rfl (lv_at hl 1 rfl) ?_
          refine lv_iconst (v := 5) hx hb dX0_repack_83 (by decide) ?_
          refine lv_iadd hx hb dX0_repack_84 ?_
          refine lv_bipush (v := 6) hx hb dX0_repack_85 (by decide) ?_
          refine lv_idiv hx hb dX0_repack_87 (by decide) ?_
          refine gt_put_lv C hw dX0_repack_88 (fun H locs hw => ?_)
          exact join_3 _ _ _ _ h hw (lv_sub hl [0, 1] rfl)
        · have h := h.2 c15
          refine lv_iconst (v := 1) hx hb dX0_repack_78 (by decide) ?_
          refine lv_goto (tgt := 88) hx hb dX0_repack_79 (by decide) ?_
          refine gt_put_lv C hw dX0_repack_88 (fun H locs hw => ?_)
          exact join_3 _ _ _ _ h hw (lv_sub hl [0, 1] rfl)
      · have h := h.2 c2
        refine lv_iconst (v := 0) hx hb dX0_repack_12 (by decide) ?_
        refine lv_istore_n (lv' := [(3, .int 0), (0, .ref (a 0)), (1, .int x1_1), (2, .int x2_1)]) hx hb dX0_repack_13 rfl hl (by decide) rfl (fun ls hl => ?_)
        obtain ⟨I16, μ16, h0_16, hI_16⟩ := h
        have loop_16 : ∀ (k : Nat) (x1_16 : Int32) (x3_16 : Int32) (pk_16 : Nat → Int32) (pv_16 : Nat → Int32) (H : Heap) (locs : List Loc) (ls : Array Slot), μ16 x1_16 x3_16 pk_16 pv_16 < k → I16 x1_16 x3_16 pk_16 pv_16 → gSt D A s (gT a d dep sub lv siz ky va tot lf sl mk mv pk_16 pv_16) H locs → lv_has ls 4 [(0, .ref (a 0)), (1, .int x1_16), (2, .int x2_1), (3, .int x3_16)] → W p l e (gRm 0 0) s m args below meth c H locs 0 0 Q (F0 m 14 ls []) := by
          intro k
          induction k with
          | zero => intro x1_16 x3_16 pk_16 pv_16 H locs ls hk; exact absurd hk (Nat.not_lt_zero _)
          | succ k ih_16 =>
            intro x1_16 x3_16 pk_16 pv_16 H locs ls hk_16 hi hw hl
            have h := hI_16 x1_16 x3_16 pk_16 pv_16 hi
            refine lv_iload_n hx hb dX0_repack_14 rfl (lv_at hl 3 rfl) ?_
            refine lv_aload_n hx hb dX0_repack_15 rfl (lv_at hl 0 rfl) ?_
            refine gt_get_siz C hw dX0_repack_16 ?_
            refine lv_iload_n hx hb dX0_repack_19 rfl (lv_at hl 2 rfl) ?_
            have b17 := h.1
            have h := h.2
            refine gt_ald_siz C hw b17 dX0_repack_20 ?_
            refine lv_icmp_ge (tgt := 67) hx hb dX0_repack_21 (by decide) (fun c18 => ?_) (fun c18 => ?_)
            · have h := h.1 c18
              refine lv_iinc (v := (x2_1 + 1)) (lv' := [(2, .int (x2_1 + 1)), (0, .ref (a 0)), (1, .int x1_16), (3, .int x3_16)]) hx hb dX0_repack_67 hl (k := 2) rfl rfl (by decide) rfl (fun ls hl => ?_)
              refine lv_goto (tgt := 4) hx hb dX0_repack_70 (by decide) ?_
              exact ih_1 _ _ _ _ _ _ _ (Nat.lt_of_lt_of_le h.2 (Nat.le_of_lt_succ hk_1)) h.1 hw (lv_sub hl [1, 2, 0] rfl)
            · have h := h.2 c18
              refine lv_aload_n hx hb dX0_repack_24 rfl (lv_at hl 0 rfl) ?_
              refine gt_get_pk C hw dX0_repack_25 ?_
              refine lv_iload_n hx hb dX0_repack_28 rfl (lv_at hl 1 rfl) ?_
              refine lv_aload_n hx hb dX0_repack_29 rfl (lv_at hl 0 rfl) ?_
              refine gt_get_ky C hw dX0_repack_30 ?_
              refine lv_iload_n hx hb dX0_repack_33 rfl (lv_at hl 2 rfl) ?_
              refine lv_bipush (v := 8) hx hb dX0_repack_34 (by decide) ?_
              refine lv_imul hx hb dX0_repack_36 ?_
              refine lv_iload_n hx hb dX0_repack_37 rfl (lv_at hl 3 rfl) ?_
              refine lv_iadd hx hb dX0_repack_38 ?_
              have b19 := h.1
              have h := h.2
              refine gt_ald_ky C hw b19 dX0_repack_39 ?_
              have b20 := h.1
              have h := h.2
              refine gt_ast_pk C hw b20 dX0_repack_40 (fun H locs hw => ?_)
              refine lv_aload_n hx hb dX0_repack_41 rfl (lv_at hl 0 rfl) ?_
              refine gt_get_pv C hw dX0_repack_42 ?_
              refine lv_iload_n hx hb dX0_repack_45 rfl (lv_at hl 1 rfl) ?_
              refine lv_aload_n hx hb dX0_repack_46 rfl (lv_at hl 0 rfl) ?_
              refine gt_get_va C hw dX0_repack_47 ?_
              refine lv_iload_n hx hb dX0_repack_50 rfl (lv_at hl 2 rfl) ?_
              refine lv_bipush (v := 8) hx hb dX0_repack_51 (by decide) ?_
              refine lv_imul hx hb dX0_repack_53 ?_
              refine lv_iload_n hx hb dX0_repack_54 rfl (lv_at hl 3 rfl) ?_
              refine lv_iadd hx hb dX0_repack_55 ?_
              have b21 := h.1
              have h := h.2
              refine gt_ald_va C hw b21 dX0_repack_56 ?_
              have b22 := h.1
              have h := h.2
              refine gt_ast_pv C hw b22 dX0_repack_57 (fun H locs hw => ?_)
              refine lv_iinc (v := (x1_16 + 1)) (lv' := [(1, .int (x1_16 + 1)), (0, .ref (a 0)), (2, .int x2_1), (3, .int x3_16)]) hx hb dX0_repack_58 hl (k := 1) rfl rfl (by decide) rfl (fun ls hl => ?_)
              refine lv_iinc (v := (x3_16 + 1)) (lv' := [(3, .int (x3_16 + 1)), (1, .int (x1_16 + 1)), (0, .ref (a 0)), (2, .int x2_1)]) hx hb dX0_repack_61 hl (k := 3) rfl rfl (by decide) rfl (fun ls hl => ?_)
              refine lv_goto (tgt := 14) hx hb dX0_repack_64 (by decide) ?_
              exact ih_16 _ _ _ _ _ _ _ (Nat.lt_of_lt_of_le h.2 (Nat.le_of_lt_succ hk_16)) h.1 hw (lv_sub hl [2, 1, 3, 0] rfl)
        exact loop_16 _ _ _ _ _ _ _ _ (Nat.lt_succ_self _) h0_16 hw (lv_sub hl [1, 2, 3, 0] rfl)
  exact loop_1 _ _ _ _ _ _ _ _ (Nat.lt_succ_self _) h0_1 hw (lv_sub hl [2, 1, 0] rfl)
set_option maxHeartbeats 4000000 in
set_option maxRecDepth 100000 in
theorem c_X0_splitLeaf (l : Launch) (D : va_G) (a : Nat → Nat) (d : ClassId) (dep : Int32) (sub : Nat → Int32) (lv : Int32) (siz : Nat → Int32) (ky : Nat → Int32) (va : Nat → Int32) (tot : Int32) (lf : Int32) (sl : Int32) (mk : Nat → Int32) (mv : Nat → Int32) (pk : Nat → Int32) (pv : Nat → Int32) (z1 : Int32) {K : Int32 → (Nat → Int32) → (Nat → Int32) → (Nat → Int32) → Prop} (h : X0_splitLeaf_w lv siz ky va z1 K) : CTv l yX0_splitLeaf cX0_splitLeaf 3  (gRm 1 23) D d [.ref (a 0), .int z1] (gT a d dep sub lv siz ky va tot lf sl mk mv pk pv) (S := Int32 × (Nat → Int32) × (Nat → Int32) × (Nat → Int32)) (fun (u : Int32 × (Nat → Int32) × (Nat → Int32) × (Nat → Int32)) => K u.1 u.2.1 u.2.2.1 u.2.2.2) (fun u => gT a d dep sub u.1 u.2.1 u.2.2.1 u.2.2.2 tot lf sl mk mv pk pv) := by
  refine gEnter_v (by decide) (Nat.le_of_ble_eq_true rfl) ?_
  intro p e s m args below meth c A Q ls C ret hl hw
  have C : gCx RX0 cX0_splitLeaf 3 none D d A p s m args meth c := C
  have hx := C.1.1
  have hb := C.1.2.1
  have hown := C.1.2.2.2.1
  have hts := C.1.2.2.2.2
  have hl : lv_has ls 3 [(0, .ref (a 0)), (1, .int z1)] := hl
  unfold X0_splitLeaf_w at h
  refine lv_aload_n hx hb dX0_splitLeaf_0 rfl (lv_at hl 0 rfl) ?_
  refine gt_get_lv C hw dX0_splitLeaf_1 ?_
  refine lv_istore_n (lv' := [(2, .int lv), (0, .ref (a 0)), (1, .int z1)]) hx hb dX0_splitLeaf_4 rfl hl (by decide) rfl (fun ls hl => ?_)
  obtain ⟨I1, μ1, h0_1, hI_1⟩ := h
  have loop_1 : ∀ (k : Nat) (x2_1 : Int32) (siz_1 : Nat → Int32) (ky_1 : Nat → Int32) (va_1 : Nat → Int32) (H : Heap) (locs : List Loc) (ls : Array Slot), μ1 x2_1 siz_1 ky_1 va_1 < k → I1 x2_1 siz_1 ky_1 va_1 → gSt D A s (gT a d dep sub lv siz_1 ky_1 va_1 tot lf sl mk mv pk pv) H locs → lv_has ls 3 [(0, .ref (a 0)), (1, .int z1), (2, .int x2_1)] → W p l e (gRm 1 23) s m args below meth c H locs 0 0 Q (F0 m 5 ls []) := by
    intro k
    induction k with
    | zero => intro x2_1 siz_1 ky_1 va_1 H locs ls hk; exact absurd hk (Nat.not_lt_zero _)
    | succ k ih_1 =>
      intro x2_1 siz_1 ky_1 va_1 H locs ls hk_1 hi hw hl
      have h := hI_1 x2_1 siz_1 ky_1 va_1 hi
      refine lv_iload_n hx hb dX0_splitLeaf_5 rfl (lv_at hl 2 rfl) ?_
      refine lv_iload_n hx hb dX0_splitLeaf_6 rfl (lv_at hl 1 rfl) ?_
      refine lv_iconst (v := 1) hx hb dX0_splitLeaf_7 (by decide) ?_
      refine lv_iadd hx hb dX0_splitLeaf_8 ?_
      refine lv_icmp_le (tgt := 26) hx hb dX0_splitLeaf_9 (by decide) (fun c2 => ?_) (fun c2 => ?_)
      · have h := h.1 c2
        refine lv_aload_n hx hb dX0_splitLeaf_26 rfl (lv_at hl 0 rfl) ?_
        refine lv_dup hx hb dX0_splitLeaf_27 rfl ?_
        refine gt_get_lv C hw dX0_splitLeaf_28 ?_
        refine lv_iconst (v := 1) hx hb dX0_splitLeaf_31 (by decide) ?_
        refine lv_iadd hx hb dX0_splitLeaf_32 ?_
        refine gt_put_lv C hw dX0_splitLeaf_33 (fun H locs hw => ?_)
        refine lv_aload_n hx hb dX0_splitLeaf_36 rfl (lv_at hl 0 rfl) ?_
        refine lv_iload_n hx hb dX0_splitLeaf_37 rfl (lv_at hl 1 rfl) ?_
        refine lv_iload_n hx hb dX0_splitLeaf_38 rfl (lv_at hl 1 rfl) ?_
        refine lv_iconst (v := 1) hx hb dX0_splitLeaf_39 (by decide) ?_
        refine lv_iadd hx hb dX0_splitLeaf_40 ?_
        refine g_callVv (rest := []) C (c_X0_copyLeaf l D a d _ _ _ _ _ _ _ _ _ _ _ _ _ z1 (z1 + 1) h) 67 RX0 (lw_V q133 q135 qs9 q23 q136) (na := 2) (by decide +kernel) rfl (by decide) 0 rfl rfl rfl hw hl.1 rfl (Nat.le_of_ble_eq_true rfl) ⟨Nat.le_refl _, Nat.le_refl _⟩ dX0_splitLeaf_41 (fun u_3 H locs h hw => ?_)
        obtain ⟨siz_3, ky_3, va_3⟩ := u_3
        have hw : gSt D A s (gT a d dep sub (lv + 1) siz_3 ky_3 va_3 tot lf sl mk mv pk pv) H locs := hw
        refine lv_aload_n hx hb dX0_splitLeaf_44 rfl (lv_at hl 0 rfl) ?_
        refine gt_get_siz C hw dX0_splitLeaf_45 ?_
        refine lv_iload_n hx hb dX0_splitLeaf_48 rfl (lv_at hl 1 rfl) ?_
        refine lv_iconst (v := 4) hx hb dX0_splitLeaf_49 (by decide) ?_
        have b4 := h.1
        have h := h.2
        refine gt_ast_siz C hw b4 dX0_splitLeaf_50 (fun H locs hw => ?_)
        refine lv_aload_n hx hb dX0_splitLeaf_51 rfl (lv_at hl 0 rfl) ?_
        refine gt_get_siz C hw dX0_splitLeaf_52 ?_
        refine lv_iload_n hx hb dX0_splitLeaf_55 rfl (lv_at hl 1 rfl) ?_
        refine lv_iconst (v := 1) hx hb dX0_splitLeaf_56 (by decide) ?_
        refine lv_iadd hx hb dX0_splitLeaf_57 ?_
        refine lv_iconst (v := 4) hx hb dX0_splitLeaf_58 (by decide) ?_
        have b5 := h.1
        have h := h.2
        refine gt_ast_siz C hw b5 dX0_splitLeaf_59 (fun H locs hw => ?_)
        refine lv_iconst (v := 0) hx hb dX0_splitLeaf_60 (by decide) ?_
        refine lv_istore_n (lv' := [(2, .int 0), (0, .ref (a 0)), (1, .int z1)]) hx hb dX0_splitLeaf_61 rfl hl (by decide) rfl (fun ls hl => ?_)
        obtain ⟨I6, μ6, h0_6, hI_6⟩ := h
        have loop_6 : ∀ (k : Nat) (x2_6 : Int32) (ky_6 : Nat → Int32) (va_6 : Nat → Int32) (H : Heap) (locs : List Loc) (ls : Array Slot), μ6 x2_6 ky_6 va_6 < k → I6 x2_6 ky_6 va_6 → gSt D A s (gT a d dep sub (lv + 1) (upd (upd siz_3 z1.toNatClampNeg 4) (z1 + 1).toNatClampNeg 4) ky_6 va_6 tot lf sl mk mv pk pv) H locs → lv_has ls 3 [(0, .ref (a 0)), (1, .int z1), (2, .int x2_6)] → W p l e (gRm 1 23) s m args below meth c H locs 0 0 Q (F0 m 62 ls []) := by
          intro k
          induction k with
          | zero => intro x2_6 ky_6 va_6 H locs ls hk; exact absurd hk (Nat.not_lt_zero _)
          | succ k ih_6 =>
            intro x2_6 ky_6 va_6 H locs ls hk_6 hi hw hl
            have h := hI_6 x2_6 ky_6 va_6 hi
            refine lv_iload_n hx hb dX0_splitLeaf_62 rfl (lv_at hl 2 rfl) ?_
            refine lv_iconst (v := 4) hx hb dX0_splitLeaf_63 (by decide) ?_
            refine lv_icmp_ge (tgt := 125) hx hb dX0_splitLeaf_64 (by decide) (fun c7 => ?_) (fun c7 => ?_)
            · have h := h.1 c7
              exact ret ((lv + 1), (upd (upd siz_3 z1.toNatClampNeg 4) (z1 + 1).toNatClampNeg 4), ky_6, va_6) _ _ _ _ h hw dX0_splitLeaf_125
            · have h := h.2 c7
              refine lv_aload_n hx hb dX0_splitLeaf_67 rfl (lv_at hl 0 rfl) ?_
              refine gt_get_ky C hw dX0_splitLeaf_68 ?_
              refine lv_iload_n hx hb dX0_splitLeaf_71 rfl (lv_at hl 1 rfl) ?_
              refine lv_iconst (v := 1) hx hb dX0_splitLeaf_72 (by decide) ?_
              refine lv_iadd hx hb dX0_splitLeaf_73 ?_
              refine lv_bipush (v := 8) hx hb dX0_splitLeaf_74 (by decide) ?_
              refine lv_imul hx hb dX0_splitLeaf_76 ?_
              refine lv_iload_n hx hb dX0_splitLeaf_77 rfl (lv_at hl 2 rfl) ?_
              refine lv_iadd hx hb dX0_splitLeaf_78 ?_
              refine lv_aload_n hx hb dX0_splitLeaf_79 rfl (lv_at hl 0 rfl) ?_
              refine gt_get_ky C hw dX0_splitLeaf_80 ?_
              refine lv_iload_n hx hb dX0_splitLeaf_83 rfl (lv_at hl 1 rfl) ?_
              refine lv_bipush (v := 8) hx hb dX0_splitLeaf_84 (by decide) ?_
              refine lv_imul hx hb dX0_splitLeaf_86 ?_
              refine lv_iload_n hx hb dX0_splitLeaf_87 rfl (lv_at hl 2 rfl) ?_
              refine lv_iadd hx hb dX0_splitLeaf_88 ?_
              refine lv_iconst (v := 4) hx hb dX0_splitLeaf_89 (by decide) ?_
              refine lv_iadd hx hb dX0_splitLeaf_90 ?_
              have b8 := h.1
              have h := h.2
              refine gt_ald_ky C hw b8 dX0_splitLeaf_91 ?_
              have b9 := h.1
              have h := h.2
              refine gt_ast_ky C hw b9 dX0_splitLeaf_92 (fun H locs hw => ?_)
              refine lv_aload_n hx hb dX0_splitLeaf_93 rfl (lv_at hl 0 rfl) ?_
              refine gt_get_va C hw dX0_splitLeaf_94 ?_
              refine lv_iload_n hx hb dX0_splitLeaf_97 rfl (lv_at hl 1 rfl) ?_
              refine lv_iconst (v := 1) hx hb dX0_splitLeaf_98 (by decide) ?_
              refine lv_iadd hx hb dX0_splitLeaf_99 ?_
              refine lv_bipush (v := 8) hx hb dX0_splitLeaf_100 (by decide) ?_
              refine lv_imul hx hb dX0_splitLeaf_102 ?_
              refine lv_iload_n hx hb dX0_splitLeaf_103 rfl (lv_at hl 2 rfl) ?_
              refine lv_iadd hx hb dX0_splitLeaf_104 ?_
              refine lv_aload_n hx hb dX0_splitLeaf_105 rfl (lv_at hl 0 rfl) ?_
              refine gt_get_va C hw dX0_splitLeaf_106 ?_
              refine lv_iload_n hx hb dX0_splitLeaf_109 rfl (lv_at hl 1 rfl) ?_
              refine lv_bipush (v := 8) hx hb dX0_splitLeaf_110 (by decide) ?_
              refine lv_imul hx hb dX0_splitLeaf_112 ?_
              refine lv_iload_n hx hb dX0_splitLeaf_113 rfl (lv_at hl 2 rfl) ?_
              refine lv_iadd hx hb dX0_splitLeaf_114 ?_
              refine lv_iconst (v := 4) hx hb dX0_splitLeaf_115 (by decide) ?_
              refine lv_iadd hx hb dX0_splitLeaf_116 ?_
              have b10 := h.1
              have h := h.2
              refine gt_ald_va C hw b10 dX0_splitLeaf_117 ?_
              have b11 := h.1
              have h := h.2
              refine gt_ast_va C hw b11 dX0_splitLeaf_118 (fun H locs hw => ?_)
              refine lv_iinc (v := (x2_6 + 1)) (lv' := [(2, .int (x2_6 + 1)), (0, .ref (a 0)), (1, .int z1)]) hx hb dX0_splitLeaf_119 hl (k := 2) rfl rfl (by decide) rfl (fun ls hl => ?_)
              refine lv_goto (tgt := 62) hx hb dX0_splitLeaf_122 (by decide) ?_
              exact ih_6 _ _ _ _ _ _ (Nat.lt_of_lt_of_le h.2 (Nat.le_of_lt_succ hk_6)) h.1 hw (lv_sub hl [1, 2, 0] rfl)
        exact loop_6 _ _ _ _ _ _ _ (Nat.lt_succ_self _) h0_6 hw (lv_sub hl [1, 2, 0] rfl)
      · have h := h.2 c2
        refine lv_aload_n hx hb dX0_splitLeaf_12 rfl (lv_at hl 0 rfl) ?_
        refine lv_iload_n hx hb dX0_splitLeaf_13 rfl (lv_at hl 2 rfl) ?_
        refine lv_iconst (v := 1) hx hb dX0_splitLeaf_14 (by decide) ?_
        refine lv_isub hx hb dX0_splitLeaf_15 ?_
        refine lv_iload_n hx hb dX0_splitLeaf_16 rfl (lv_at hl 2 rfl) ?_
        refine g_callVv (rest := []) C (c_X0_copyLeaf l D a d _ _ _ _ _ _ _ _ _ _ _ _ _ (x2_1 - 1) x2_1 h) 67 RX0 (lw_V q133 q135 qs9 q23 q136) (na := 2) (by decide +kernel) rfl (by decide) 0 rfl rfl rfl hw hl.1 rfl (Nat.le_of_ble_eq_true rfl) ⟨Nat.le_refl _, Nat.le_refl _⟩ dX0_splitLeaf_17 (fun u_12 H locs h hw => ?_)
        obtain ⟨siz_12, ky_12, va_12⟩ := u_12
        have hw : gSt D A s (gT a d dep sub lv siz_12 ky_12 va_12 tot lf sl mk mv pk pv) H locs := hw
        refine lv_iinc (v := (x2_1 + (-1))) (lv' := [(2, .int (x2_1 + (-1))), (0, .ref (a 0)), (1, .int z1)]) hx hb dX0_splitLeaf_20 hl (k := 2) rfl rfl (by decide) rfl (fun ls hl => ?_)
        refine lv_goto (tgt := 5) hx hb dX0_splitLeaf_23 (by decide) ?_
        exact ih_1 _ _ _ _ _ _ _ (Nat.lt_of_lt_of_le h.2 (Nat.le_of_lt_succ hk_1)) h.1 hw (lv_sub hl [1, 2, 0] rfl)
  exact loop_1 _ _ _ _ _ _ _ _ (Nat.lt_succ_self _) h0_1 hw (lv_sub hl [1, 2, 0] rfl)
set_option maxHeartbeats 4000000 in
set_option maxRecDepth 100000 in
theorem c_X0_seekRoom (l : Launch) (D : va_G) (a : Nat → Nat) (d : ClassId) (dep : Int32) (sub : Nat → Int32) (lv : Int32) (siz : Nat → Int32) (ky : Nat → Int32) (va : Nat → Int32) (tot : Int32) (lf : Int32) (sl : Int32) (mk : Nat → Int32) (mv : Nat → Int32) (pk : Nat → Int32) (pv : Nat → Int32) (z1 : Int32) {K : Int32 → (Nat → Int32) → (Nat → Int32) → (Nat → Int32) → Int32 → Int32 → (Nat → Int32) → (Nat → Int32) → Prop} (h : X0_seekRoom_w lv siz ky va pk pv z1 K) : CTv l yX0_seekRoom cX0_seekRoom 2  (gRm 2 45) D d [.ref (a 0), .int z1] (gT a d dep sub lv siz ky va tot lf sl mk mv pk pv) (S := Int32 × (Nat → Int32) × (Nat → Int32) × (Nat → Int32) × Int32 × Int32 × (Nat → Int32) × (Nat → Int32)) (fun (u : Int32 × (Nat → Int32) × (Nat → Int32) × (Nat → Int32) × Int32 × Int32 × (Nat → Int32) × (Nat → Int32)) => K u.1 u.2.1 u.2.2.1 u.2.2.2.1 u.2.2.2.2.1 u.2.2.2.2.2.1 u.2.2.2.2.2.2.1 u.2.2.2.2.2.2.2) (fun u => gT a d dep sub u.1 u.2.1 u.2.2.1 u.2.2.2.1 tot u.2.2.2.2.1 u.2.2.2.2.2.1 mk mv u.2.2.2.2.2.2.1 u.2.2.2.2.2.2.2) := by
  refine gEnter_v (by decide) (Nat.le_of_ble_eq_true rfl) ?_
  intro p e s m args below meth c A Q ls C ret hl hw
  have C : gCx RX0 cX0_seekRoom 2 none D d A p s m args meth c := C
  have hx := C.1.1
  have hb := C.1.2.1
  have hown := C.1.2.2.2.1
  have hts := C.1.2.2.2.2
  have hl : lv_has ls 2 [(0, .ref (a 0)), (1, .int z1)] := hl
  unfold X0_seekRoom_w at h
  obtain ⟨J1, hJ_1, h⟩ := h
  have join_1 : ∀ (lv_1 : Int32) (siz_1 : Nat → Int32) (ky_1 : Nat → Int32) (va_1 : Nat → Int32) (pk_1 : Nat → Int32) (pv_1 : Nat → Int32) (H : Heap) (locs : List Loc) (ls : Array Slot), J1 lv_1 siz_1 ky_1 va_1 pk_1 pv_1 → gSt D A s (gT a d dep sub lv_1 siz_1 ky_1 va_1 tot lf sl mk mv pk_1 pv_1) H locs → lv_has ls 2 [(0, .ref (a 0)), (1, .int z1)] → W p l e (gRm 2 45) s m args below meth c H locs 0 0 Q (F0 m 13 ls []) := by
    intro lv_1 siz_1 ky_1 va_1 pk_1 pv_1 H locs ls hi hw hl
    have h := hJ_1 lv_1 siz_1 ky_1 va_1 pk_1 pv_1 hi
    refine lv_aload_n hx hb dX0_seekRoom_13 rfl (lv_at hl 0 rfl) ?_
    refine lv_iload_n hx hb dX0_seekRoom_14 rfl (lv_at hl 1 rfl) ?_
    refine g_callVv (rest := []) C (c_X0_seek l D a d _ _ _ _ _ _ _ _ _ _ _ _ _ z1 h) 59 RX0 (lw_V q104 q106 qs2 q23 q107) (na := 1) (by decide +kernel) rfl (by decide) 0 rfl rfl rfl hw hl.1 rfl (Nat.le_of_ble_eq_true rfl) ⟨Nat.le_refl _, Nat.le_refl _⟩ dX0_seekRoom_15 (fun u_2 H locs h hw => ?_)
    obtain ⟨lf_2, sl_2⟩ := u_2
    have hw : gSt D A s (gT a d dep sub lv_1 siz_1 ky_1 va_1 tot lf_2 sl_2 mk mv pk_1 pv_1) H locs := hw
    obtain ⟨J3, hJ_3, h⟩ := h
    have join_3 : ∀ (lf_3 : Int32) (sl_3 : Int32) (H : Heap) (locs : List Loc) (ls : Array Slot), J3 lf_3 sl_3 → gSt D A s (gT a d dep sub lv_1 siz_1 ky_1 va_1 tot lf_3 sl_3 mk mv pk_1 pv_1) H locs → lv_has ls 2 [(0, .ref (a 0))] → W p l e (gRm 2 45) s m args below meth c H locs 0 0 Q (F0 m 55 ls []) := by
      intro lf_3 sl_3 H locs ls hi hw hl
      have h := hJ_3 lf_3 sl_3 hi
      refine lv_aload_n hx hb dX0_seekRoom_55 rfl (lv_at hl 0 rfl) ?_
      refine gt_get_siz C hw dX0_seekRoom_56 ?_
      refine lv_aload_n hx hb dX0_seekRoom_59 rfl (lv_at hl 0 rfl) ?_
      refine gt_get_lf C hw dX0_seekRoom_60 ?_
      have b4 := h.1
      have h := h.2
      refine gt_ald_siz C hw b4 dX0_seekRoom_63 ?_
      refine lv_bipush (v := 8) hx hb dX0_seekRoom_64 (by decide) ?_
      refine lv_icmp_ge (tgt := 70) hx hb dX0_seekRoom_66 (by decide) (fun c5 => ?_) (fun c5 => ?_)
      · have h := h.1 c5
        refine lv_aload_n hx hb dX0_seekRoom_70 rfl (lv_at hl 0 rfl) ?_
        refine lv_aload_n hx hb dX0_seekRoom_71 rfl (lv_at hl 0 rfl) ?_
        refine gt_get_lf C hw dX0_seekRoom_72 ?_
        refine g_callVv (rest := []) C (c_X0_splitLeaf l D a d _ _ _ _ _ _ _ _ _ _ _ _ _ lf_3 h) 74 RX0 (lw_V q129 q131 qs8 q23 q132) (na := 1) (by decide +kernel) rfl (by decide) 0 rfl rfl rfl hw hl.1 rfl (Nat.le_of_ble_eq_true rfl) ⟨Nat.le_refl _, Nat.le_refl _⟩ dX0_seekRoom_75 (fun u_6 H locs h hw => ?_)
        obtain ⟨lv_6, siz_6, ky_6, va_6⟩ := u_6
        have hw : gSt D A s (gT a d dep sub lv_6 siz_6 ky_6 va_6 tot lf_3 sl_3 mk mv pk_1 pv_1) H locs := hw
        refine lv_aload_n hx hb dX0_seekRoom_78 rfl (lv_at hl 0 rfl) ?_
        refine gt_get_sl C hw dX0_seekRoom_79 ?_
        refine lv_iconst (v := 4) hx hb dX0_seekRoom_82 (by decide) ?_
        refine lv_icmp_le (tgt := 106) hx hb dX0_seekRoom_83 (by decide) (fun c7 => ?_) (fun c7 => ?_)
        · have h := h.1 c7
          exact ret (lv_6, siz_6, ky_6, va_6, lf_3, sl_3, pk_1, pv_1) _ _ _ _ h hw dX0_seekRoom_106
        · have h := h.2 c7
          refine lv_aload_n hx hb dX0_seekRoom_86 rfl (lv_at hl 0 rfl) ?_
          refine lv_dup hx hb dX0_seekRoom_87 rfl ?_
          refine gt_get_sl C hw dX0_seekRoom_88 ?_
          refine lv_iconst (v := 4) hx hb dX0_seekRoom_91 (by decide) ?_
          refine lv_isub hx hb dX0_seekRoom_92 ?_
          refine gt_put_sl C hw dX0_seekRoom_93 (fun H locs hw => ?_)
          refine lv_aload_n hx hb dX0_seekRoom_96 rfl (lv_at hl 0 rfl) ?_
          refine lv_dup hx hb dX0_seekRoom_97 rfl ?_
          refine gt_get_lf C hw dX0_seekRoom_98 ?_
          refine lv_iconst (v := 1) hx hb dX0_seekRoom_101 (by decide) ?_
          refine lv_iadd hx hb dX0_seekRoom_102 ?_
          refine gt_put_lf C hw dX0_seekRoom_103 (fun H locs hw => ?_)
          exact ret (lv_6, siz_6, ky_6, va_6, (lf_3 + 1), (sl_3 - 4), pk_1, pv_1) _ _ _ _ h hw dX0_seekRoom_106
      · have h := h.2 c5
        exact ret (lv_1, siz_1, ky_1, va_1, lf_3, sl_3, pk_1, pv_1) _ _ _ _ h hw dX0_seekRoom_69
    refine lv_aload_n hx hb dX0_seekRoom_18 rfl (lv_at hl 0 rfl) ?_
    refine gt_get_sl C hw dX0_seekRoom_19 ?_
    refine lv_if_ne (tgt := 55) hx hb dX0_seekRoom_22 (by decide) (fun c8 => ?_) (fun c8 => ?_)
    · have h := h.1 c8
      exact join_3 _ _ _ _ _ h hw (lv_sub hl [0] rfl)
    · have h := h.2 c8
      refine lv_aload_n hx hb dX0_seekRoom_25 rfl (lv_at hl 0 rfl) ?_
      refine gt_get_lf C hw dX0_seekRoom_26 ?_
      refine lv_if_le (tgt := 55) hx hb dX0_seekRoom_29 (by decide) (fun c9 => ?_) (fun c9 => ?_)
      · have h := h.1 c9
        exact join_3 _ _ _ _ _ h hw (lv_sub hl [0] rfl)
      · have h := h.2 c9
        refine lv_aload_n hx hb dX0_seekRoom_32 rfl (lv_at hl 0 rfl) ?_
        refine lv_dup hx hb dX0_seekRoom_33 rfl ?_
        refine gt_get_lf C hw dX0_seekRoom_34 ?_
        refine lv_iconst (v := 1) hx hb dX0_seekRoom_37 (by decide) ?_
        refine lv_isub hx hb dX0_seekRoom_38 ?_
        refine gt_put_lf C hw dX0_seekRoom_39 (fun H locs hw => ?_)
        refine lv_aload_n hx hb dX0_seekRoom_42 rfl (lv_at hl 0 rfl) ?_
        refine lv_aload_n hx hb dX0_seekRoom_43 rfl (lv_at hl 0 rfl) ?_
        refine gt_get_siz C hw dX0_seekRoom_44 ?_
        refine lv_aload_n hx hb dX0_seekRoom_47 rfl (lv_at hl 0 rfl) ?_
        refine gt_get_lf C hw dX0_seekRoom_48 ?_
        have b10 := h.1
        have h := h.2
        refine gt_ald_siz C hw b10 dX0_seekRoom_51 ?_
        refine gt_put_sl C hw dX0_seekRoom_52 (fun H locs hw => ?_)
        exact join_3 _ _ _ _ _ h hw (lv_sub hl [0] rfl)
  refine lv_aload_n hx hb dX0_seekRoom_0 rfl (lv_at hl 0 rfl) ?_
  refine gt_get_lv C hw dX0_seekRoom_1 ?_
  refine lv_bipush (v := 32) hx hb dX0_seekRoom_4 (by decide) ?_
  refine lv_icmp_lt (tgt := 13) hx hb dX0_seekRoom_6 (by decide) (fun c11 => ?_) (fun c11 => ?_)
  · have h := h.1 c11
    exact join_1 _ _ _ _ _ _ _ _ _ h hw (lv_sub hl [0, 1] rfl)
  · have h := h.2 c11
    refine lv_aload_n hx hb dX0_seekRoom_9 rfl (lv_at hl 0 rfl) ?_
    refine g_callVv (rest := []) C (c_X0_repack l D a d _ _ _ _ _ _ _ _ _ _ _ _ _  h) 71 RX0 (lw_V q125 q127 qs7 q23 q128) (na := 0) (by decide +kernel) rfl (by decide) 0 rfl rfl rfl hw hl.1 rfl (Nat.le_of_ble_eq_true rfl) ⟨Nat.le_refl _, Nat.le_refl _⟩ dX0_seekRoom_10 (fun u_12 H locs h hw => ?_)
    obtain ⟨lv_12, siz_12, ky_12, va_12, pk_12, pv_12⟩ := u_12
    have hw : gSt D A s (gT a d dep sub lv_12 siz_12 ky_12 va_12 tot lf sl mk mv pk_12 pv_12) H locs := hw
    exact join_1 _ _ _ _ _ _ _ _ _ h hw (lv_sub hl [0, 1] rfl)
set_option maxHeartbeats 4000000 in
set_option maxRecDepth 100000 in
theorem c_X0_insert (l : Launch) (D : va_G) (a : Nat → Nat) (d : ClassId) (dep : Int32) (sub : Nat → Int32) (lv : Int32) (siz : Nat → Int32) (ky : Nat → Int32) (va : Nat → Int32) (tot : Int32) (lf : Int32) (sl : Int32) (mk : Nat → Int32) (mv : Nat → Int32) (pk : Nat → Int32) (pv : Nat → Int32) (z1 : Int32) (z2 : Int32) {K : Int32 → (Nat → Int32) → (Nat → Int32) → (Nat → Int32) → Int32 → Int32 → Int32 → (Nat → Int32) → (Nat → Int32) → Prop} (h : X0_insert_w lv siz ky va tot pk pv z1 z2 K) : CTv l yX0_insert cX0_insert 4  (gRm 3 66) D d [.ref (a 0), .int z1, .int z2] (gT a d dep sub lv siz ky va tot lf sl mk mv pk pv) (S := Int32 × (Nat → Int32) × (Nat → Int32) × (Nat → Int32) × Int32 × Int32 × Int32 × (Nat → Int32) × (Nat → Int32)) (fun (u : Int32 × (Nat → Int32) × (Nat → Int32) × (Nat → Int32) × Int32 × Int32 × Int32 × (Nat → Int32) × (Nat → Int32)) => K u.1 u.2.1 u.2.2.1 u.2.2.2.1 u.2.2.2.2.1 u.2.2.2.2.2.1 u.2.2.2.2.2.2.1 u.2.2.2.2.2.2.2.1 u.2.2.2.2.2.2.2.2) (fun u => gT a d dep sub u.1 u.2.1 u.2.2.1 u.2.2.2.1 u.2.2.2.2.1 u.2.2.2.2.2.1 u.2.2.2.2.2.2.1 mk mv u.2.2.2.2.2.2.2.1 u.2.2.2.2.2.2.2.2) := by
  refine gEnter_v (by decide) (Nat.le_of_ble_eq_true rfl) ?_
  intro p e s m args below meth c A Q ls C ret hl hw
  have C : gCx RX0 cX0_insert 4 none D d A p s m args meth c := C
  have hx := C.1.1
  have hb := C.1.2.1
  have hown := C.1.2.2.2.1
  have hts := C.1.2.2.2.2
  have hl : lv_has ls 4 [(0, .ref (a 0)), (1, .int z1), (2, .int z2)] := hl
  unfold X0_insert_w at h
  refine lv_aload_n hx hb dX0_insert_0 rfl (lv_at hl 0 rfl) ?_
  refine lv_iload_n hx hb dX0_insert_1 rfl (lv_at hl 1 rfl) ?_
  refine g_callVv (rest := []) C (c_X0_seekRoom l D a d _ _ _ _ _ _ _ _ _ _ _ _ _ z1 h) 77 RX0 (lw_V q121 q123 qs6 q23 q124) (na := 1) (by decide +kernel) rfl (by decide) 0 rfl rfl rfl hw hl.1 rfl (Nat.le_of_ble_eq_true rfl) ⟨Nat.le_refl _, Nat.le_refl _⟩ dX0_insert_2 (fun u_1 H locs h hw => ?_)
  obtain ⟨lv_1, siz_1, ky_1, va_1, lf_1, sl_1, pk_1, pv_1⟩ := u_1
  have hw : gSt D A s (gT a d dep sub lv_1 siz_1 ky_1 va_1 tot lf_1 sl_1 mk mv pk_1 pv_1) H locs := hw
  refine lv_aload_n hx hb dX0_insert_5 rfl (lv_at hl 0 rfl) ?_
  refine gt_get_siz C hw dX0_insert_6 ?_
  refine lv_aload_n hx hb dX0_insert_9 rfl (lv_at hl 0 rfl) ?_
  refine gt_get_lf C hw dX0_insert_10 ?_
  have b2 := h.1
  have h := h.2
  refine gt_ald_siz C hw b2 dX0_insert_13 ?_
  refine lv_istore_n (lv' := [(3, .int (siz_1 lf_1.toNatClampNeg)), (0, .ref (a 0)), (1, .int z1), (2, .int z2)]) hx hb dX0_insert_14 rfl hl (by decide) rfl (fun ls hl => ?_)
  obtain ⟨I3, μ3, h0_3, hI_3⟩ := h
  have loop_3 : ∀ (k : Nat) (x3_3 : Int32) (ky_3 : Nat → Int32) (va_3 : Nat → Int32) (H : Heap) (locs : List Loc) (ls : Array Slot), μ3 x3_3 ky_3 va_3 < k → I3 x3_3 ky_3 va_3 → gSt D A s (gT a d dep sub lv_1 siz_1 ky_3 va_3 tot lf_1 sl_1 mk mv pk_1 pv_1) H locs → lv_has ls 4 [(0, .ref (a 0)), (1, .int z1), (2, .int z2), (3, .int x3_3)] → W p l e (gRm 3 66) s m args below meth c H locs 0 0 Q (F0 m 15 ls []) := by
    intro k
    induction k with
    | zero => intro x3_3 ky_3 va_3 H locs ls hk; exact absurd hk (Nat.not_lt_zero _)
    | succ k ih_3 =>
      intro x3_3 ky_3 va_3 H locs ls hk_3 hi hw hl
      have h := hI_3 x3_3 ky_3 va_3 hi
      refine lv_iload_n hx hb dX0_insert_15 rfl (lv_at hl 3 rfl) ?_
      refine lv_aload_n hx hb dX0_insert_16 rfl (lv_at hl 0 rfl) ?_
      refine gt_get_sl C hw dX0_insert_17 ?_
      refine lv_icmp_le (tgt := 89) hx hb dX0_insert_20 (by decide) (fun c4 => ?_) (fun c4 => ?_)
      · have h := h.1 c4
        refine lv_aload_n hx hb dX0_insert_89 rfl (lv_at hl 0 rfl) ?_
        refine gt_get_ky C hw dX0_insert_90 ?_
        refine lv_aload_n hx hb dX0_insert_93 rfl (lv_at hl 0 rfl) ?_
        refine gt_get_lf C hw dX0_insert_94 ?_
        refine lv_bipush (v := 8) hx hb dX0_insert_97 (by decide) ?_
        refine lv_imul hx hb dX0_insert_99 ?_
        refine lv_aload_n hx hb dX0_insert_100 rfl (lv_at hl 0 rfl) ?_
        refine gt_get_sl C hw dX0_insert_101 ?_
        refine lv_iadd hx hb dX0_insert_104 ?_
        refine lv_iload_n hx hb dX0_insert_105 rfl (lv_at hl 1 rfl) ?_
        have b5 := h.1
        have h := h.2
        refine gt_ast_ky C hw b5 dX0_insert_106 (fun H locs hw => ?_)
        refine lv_aload_n hx hb dX0_insert_107 rfl (lv_at hl 0 rfl) ?_
        refine gt_get_va C hw dX0_insert_108 ?_
        refine lv_aload_n hx hb dX0_insert_111 rfl (lv_at hl 0 rfl) ?_
        refine gt_get_lf C hw dX0_insert_112 ?_
        refine lv_bipush (v := 8) hx hb dX0_insert_115 (by decide) ?_
        refine lv_imul hx hb dX0_insert_117 ?_
        refine lv_aload_n hx hb dX0_insert_118 rfl (lv_at hl 0 rfl) ?_
        refine gt_get_sl C hw dX0_insert_119 ?_
        refine lv_iadd hx hb dX0_insert_122 ?_
        refine lv_iload_n hx hb dX0_insert_123 rfl (lv_at hl 2 rfl) ?_
        have b6 := h.1
        have h := h.2
        refine gt_ast_va C hw b6 dX0_insert_124 (fun H locs hw => ?_)
        refine lv_aload_n hx hb dX0_insert_125 rfl (lv_at hl 0 rfl) ?_
        refine gt_get_siz C hw dX0_insert_126 ?_
        refine lv_aload_n hx hb dX0_insert_129 rfl (lv_at hl 0 rfl) ?_
        refine gt_get_lf C hw dX0_insert_130 ?_
        refine lv_dup2_11 hx hb dX0_insert_133 rfl rfl ?_
        have b7 := h.1
        have h := h.2
        refine gt_ald_siz C hw b7 dX0_insert_134 ?_
        refine lv_iconst (v := 1) hx hb dX0_insert_135 (by decide) ?_
        refine lv_iadd hx hb dX0_insert_136 ?_
        have b8 := h.1
        have h := h.2
        refine gt_ast_siz C hw b8 dX0_insert_137 (fun H locs hw => ?_)
        refine lv_aload_n hx hb dX0_insert_138 rfl (lv_at hl 0 rfl) ?_
        refine lv_dup hx hb dX0_insert_139 rfl ?_
        refine gt_get_tot C hw dX0_insert_140 ?_
        refine lv_iconst (v := 1) hx hb dX0_insert_143 (by decide) ?_
        refine lv_iadd hx hb dX0_insert_144 ?_
        refine gt_put_tot C hw dX0_insert_145 (fun H locs hw => ?_)
        exact ret (lv_1, (upd siz_1 lf_1.toNatClampNeg ((siz_1 lf_1.toNatClampNeg) + 1)), (upd ky_3 ((lf_1 * 8) + sl_1).toNatClampNeg z1), (upd va_3 ((lf_1 * 8) + sl_1).toNatClampNeg z2), (tot + 1), lf_1, sl_1, pk_1, pv_1) _ _ _ _ h hw dX0_insert_148
      · have h := h.2 c4
        refine lv_aload_n hx hb dX0_insert_23 rfl (lv_at hl 0 rfl) ?_
        refine gt_get_ky C hw dX0_insert_24 ?_
        refine lv_aload_n hx hb dX0_insert_27 rfl (lv_at hl 0 rfl) ?_
        refine gt_get_lf C hw dX0_insert_28 ?_
        refine lv_bipush (v := 8) hx hb dX0_insert_31 (by decide) ?_
        refine lv_imul hx hb dX0_insert_33 ?_
        refine lv_iload_n hx hb dX0_insert_34 rfl (lv_at hl 3 rfl) ?_
        refine lv_iadd hx hb dX0_insert_35 ?_
        refine lv_aload_n hx hb dX0_insert_36 rfl (lv_at hl 0 rfl) ?_
        refine gt_get_ky C hw dX0_insert_37 ?_
        refine lv_aload_n hx hb dX0_insert_40 rfl (lv_at hl 0 rfl) ?_
        refine gt_get_lf C hw dX0_insert_41 ?_
        refine lv_bipush (v := 8) hx hb dX0_insert_44 (by decide) ?_
        refine lv_imul hx hb dX0_insert_46 ?_
        refine lv_iload_n hx hb dX0_insert_47 rfl (lv_at hl 3 rfl) ?_
        refine lv_iadd hx hb dX0_insert_48 ?_
        refine lv_iconst (v := 1) hx hb dX0_insert_49 (by decide) ?_
        refine lv_isub hx hb dX0_insert_50 ?_
        have b9 := h.1
        have h := h.2
        refine gt_ald_ky C hw b9 dX0_insert_51 ?_
        have b10 := h.1
        have h := h.2
        refine gt_ast_ky C hw b10 dX0_insert_52 (fun H locs hw => ?_)
        refine lv_aload_n hx hb dX0_insert_53 rfl (lv_at hl 0 rfl) ?_
        refine gt_get_va C hw dX0_insert_54 ?_
        refine lv_aload_n hx hb dX0_insert_57 rfl (lv_at hl 0 rfl) ?_
        refine gt_get_lf C hw dX0_insert_58 ?_
        refine lv_bipush (v := 8) hx hb dX0_insert_61 (by decide) ?_
        refine lv_imul hx hb dX0_insert_63 ?_
        refine lv_iload_n hx hb dX0_insert_64 rfl (lv_at hl 3 rfl) ?_
        refine lv_iadd hx hb dX0_insert_65 ?_
        refine lv_aload_n hx hb dX0_insert_66 rfl (lv_at hl 0 rfl) ?_
        refine gt_get_va C hw dX0_insert_67 ?_
        refine lv_aload_n hx hb dX0_insert_70 rfl (lv_at hl 0 rfl) ?_
        refine gt_get_lf C hw dX0_insert_71 ?_
        refine lv_bipush (v := 8) hx hb dX0_insert_74 (by decide) ?_
        refine lv_imul hx hb dX0_insert_76 ?_
        refine lv_iload_n hx hb dX0_insert_77 rfl (lv_at hl 3 rfl) ?_
        refine lv_iadd hx hb dX0_insert_78 ?_
        refine lv_iconst (v := 1) hx hb dX0_insert_79 (by decide) ?_
        refine lv_isub hx hb dX0_insert_80 ?_
        have b11 := h.1
        have h := h.2
        refine gt_ald_va C hw b11 dX0_insert_81 ?_
        have b12 := h.1
        have h := h.2
        refine gt_ast_va C hw b12 dX0_insert_82 (fun H locs hw => ?_)
        refine lv_iinc (v := (x3_3 + (-1))) (lv' := [(3, .int (x3_3 + (-1))), (0, .ref (a 0)), (1, .int z1), (2, .int z2)]) hx hb dX0_insert_83 hl (k := 3) rfl rfl (by decide) rfl (fun ls hl => ?_)
        refine lv_goto (tgt := 15) hx hb dX0_insert_86 (by decide) ?_
        exact ih_3 _ _ _ _ _ _ (Nat.lt_of_lt_of_le h.2 (Nat.le_of_lt_succ hk_3)) h.1 hw (lv_sub hl [1, 2, 3, 0] rfl)
  exact loop_3 _ _ _ _ _ _ _ (Nat.lt_succ_self _) h0_3 hw (lv_sub hl [1, 2, 3, 0] rfl)
set_option maxHeartbeats 4000000 in
set_option maxRecDepth 100000 in
theorem c_X0_put (l : Launch) (D : va_G) (a : Nat → Nat) (d : ClassId) (dep : Int32) (sub : Nat → Int32) (lv : Int32) (siz : Nat → Int32) (ky : Nat → Int32) (va : Nat → Int32) (tot : Int32) (lf : Int32) (sl : Int32) (mk : Nat → Int32) (mv : Nat → Int32) (pk : Nat → Int32) (pv : Nat → Int32) (z1 : Int32) (z2 : Int32) {K : Int32 → (Nat → Int32) → (Nat → Int32) → (Nat → Int32) → Int32 → Int32 → Int32 → (Nat → Int32) → (Nat → Int32) → Prop} (h : X0_put_w lv siz ky va tot pk pv z1 z2 K) : CTv l yX0_put cX0_put 4  (gRm 4 89) D d [.ref (a 0), .int z1, .int z2] (gT a d dep sub lv siz ky va tot lf sl mk mv pk pv) (S := Int32 × (Nat → Int32) × (Nat → Int32) × (Nat → Int32) × Int32 × Int32 × Int32 × (Nat → Int32) × (Nat → Int32)) (fun (u : Int32 × (Nat → Int32) × (Nat → Int32) × (Nat → Int32) × Int32 × Int32 × Int32 × (Nat → Int32) × (Nat → Int32)) => K u.1 u.2.1 u.2.2.1 u.2.2.2.1 u.2.2.2.2.1 u.2.2.2.2.2.1 u.2.2.2.2.2.2.1 u.2.2.2.2.2.2.2.1 u.2.2.2.2.2.2.2.2) (fun u => gT a d dep sub u.1 u.2.1 u.2.2.1 u.2.2.2.1 u.2.2.2.2.1 u.2.2.2.2.2.1 u.2.2.2.2.2.2.1 mk mv u.2.2.2.2.2.2.2.1 u.2.2.2.2.2.2.2.2) := by
  refine gEnter_v (by decide) (Nat.le_of_ble_eq_true rfl) ?_
  intro p e s m args below meth c A Q ls C ret hl hw
  have C : gCx RX0 cX0_put 4 none D d A p s m args meth c := C
  have hx := C.1.1
  have hb := C.1.2.1
  have hown := C.1.2.2.2.1
  have hts := C.1.2.2.2.2
  have hl : lv_has ls 4 [(0, .ref (a 0)), (1, .int z1), (2, .int z2)] := hl
  unfold X0_put_w at h
  refine lv_aload_n hx hb dX0_put_0 rfl (lv_at hl 0 rfl) ?_
  refine lv_iload_n hx hb dX0_put_1 rfl (lv_at hl 1 rfl) ?_
  refine g_callVi (rest := []) C (c_X0_present l D a d _ _ _ _ _ _ _ _ _ _ _ _ _ z1 h) 83 RX0 (lw_V q100 q102 qs1 q23 q103) (na := 1) (by decide +kernel) rfl (by decide) 0 rfl rfl rfl hw hl.1 rfl (Nat.le_of_ble_eq_true rfl) ⟨Nat.le_refl _, Nat.le_refl _⟩ dX0_put_2 (fun r_1 u_1 H locs h hw => ?_)
  obtain ⟨lf_1, sl_1⟩ := u_1
  have hw : gSt D A s (gT a d dep sub lv siz ky va tot lf_1 sl_1 mk mv pk pv) H locs := hw
  refine lv_istore_n (lv' := [(3, .int r_1), (0, .ref (a 0)), (1, .int z1), (2, .int z2)]) hx hb dX0_put_5 rfl hl (by decide) rfl (fun ls hl => ?_)
  refine lv_iload_n hx hb dX0_put_6 rfl (lv_at hl 0 rfl) ?_
  refine lv_if_eq (tgt := 31) hx hb dX0_put_7 (by decide) (fun c2 => ?_) (fun c2 => ?_)
  · have h := h.1 c2
    refine lv_aload_n hx hb dX0_put_31 rfl (lv_at hl 1 rfl) ?_
    refine lv_iload_n hx hb dX0_put_32 rfl (lv_at hl 2 rfl) ?_
    refine lv_iload_n hx hb dX0_put_33 rfl (lv_at hl 3 rfl) ?_
    refine g_callVv (rest := []) C (c_X0_insert l D a d _ _ _ _ _ _ _ _ _ _ _ _ _ z1 z2 h) 86 RX0 (lw_V q117 q119 qs5 q23 q120) (na := 2) (by decide +kernel) rfl (by decide) 0 rfl rfl rfl hw hl.1 rfl (Nat.le_of_ble_eq_true rfl) ⟨Nat.le_refl _, Nat.le_refl _⟩ dX0_put_34 (fun u_3 H locs h hw => ?_)
    obtain ⟨lv_3, siz_3, ky_3, va_3, tot_3, lf_3, sl_3, pk_3, pv_3⟩ := u_3
    have hw : gSt D A s (gT a d dep sub lv_3 siz_3 ky_3 va_3 tot_3 lf_3 sl_3 mk mv pk_3 pv_3) H locs := hw
    exact ret (lv_3, siz_3, ky_3, va_3, tot_3, lf_3, sl_3, pk_3, pv_3) _ _ _ _ h hw dX0_put_37
  · have h := h.2 c2
    refine lv_aload_n hx hb dX0_put_10 rfl (lv_at hl 1 rfl) ?_
    refine gt_get_va C hw dX0_put_11 ?_
    refine lv_aload_n hx hb dX0_put_14 rfl (lv_at hl 1 rfl) ?_
    refine gt_get_lf C hw dX0_put_15 ?_
    refine lv_bipush (v := 8) hx hb dX0_put_18 (by decide) ?_
    refine lv_imul hx hb dX0_put_20 ?_
    refine lv_aload_n hx hb dX0_put_21 rfl (lv_at hl 1 rfl) ?_
    refine gt_get_sl C hw dX0_put_22 ?_
    refine lv_iadd hx hb dX0_put_25 ?_
    refine lv_iload_n hx hb dX0_put_26 rfl (lv_at hl 3 rfl) ?_
    have b4 := h.1
    have h := h.2
    refine gt_ast_va C hw b4 dX0_put_27 (fun H locs hw => ?_)
    refine lv_goto (tgt := 37) hx hb dX0_put_28 (by decide) ?_
    exact ret (lv, siz, ky, (upd va ((lf_1 * 8) + sl_1).toNatClampNeg z2), tot, lf_1, sl_1, pk, pv) _ _ _ _ h hw dX0_put_37
end
section
set_option maxHeartbeats 4000000 in
set_option maxRecDepth 100000 in
theorem c_X0_set (l : Launch) (D : va_G) (a : Nat → Nat) (d : ClassId) (dep : Int32) (sub : Nat → Int32) (lv : Int32) (siz : Nat → Int32) (ky : Nat → Int32) (va : Nat → Int32) (tot : Int32) (lf : Int32) (sl : Int32) (mk : Nat → Int32) (mv : Nat → Int32) (pk : Nat → Int32) (pv : Nat → Int32) (z1 : Int32) {K : Int32 → Int32 → (Nat → Int32) → (Nat → Int32) → (Nat → Int32) → Int32 → Int32 → Int32 → (Nat → Int32) → (Nat → Int32) → Prop} (h : X0_set_w dep sub lv siz ky va tot lf sl pk pv z1 K) : CTi l yX0_set cX0_set 4 (some .int)  (gRm 5 112) D d [.ref (a 0), .int z1] (gT a d dep sub lv siz ky va tot lf sl mk mv pk pv) (S := Int32 × (Nat → Int32) × (Nat → Int32) × (Nat → Int32) × Int32 × Int32 × Int32 × (Nat → Int32) × (Nat → Int32)) (fun (r : Int32) (u : Int32 × (Nat → Int32) × (Nat → Int32) × (Nat → Int32) × Int32 × Int32 × Int32 × (Nat → Int32) × (Nat → Int32)) => K r u.1 u.2.1 u.2.2.1 u.2.2.2.1 u.2.2.2.2.1 u.2.2.2.2.2.1 u.2.2.2.2.2.2.1 u.2.2.2.2.2.2.2.1 u.2.2.2.2.2.2.2.2) (fun u => gT a d dep sub u.1 u.2.1 u.2.2.1 u.2.2.2.1 u.2.2.2.2.1 u.2.2.2.2.2.1 u.2.2.2.2.2.2.1 mk mv u.2.2.2.2.2.2.2.1 u.2.2.2.2.2.2.2.2) := by
  refine gEnter_i (by decide) (Nat.le_of_ble_eq_true rfl) ?_
  intro p e s m args below meth c A Q ls C ret hl hw
  have C : gCx RX0 cX0_set 4 (some .int) D d A p s m args meth c := C
  have hx := C.1.1
  have hb := C.1.2.1
  have hown := C.1.2.2.2.1
  have hts := C.1.2.2.2.2
  have hl : lv_has ls 4 [(0, .ref (a 0)), (1, .int z1)] := hl
  unfold X0_set_w at h
  refine lv_aload_n hx hb dX0_set_0 rfl (lv_at hl 0 rfl) ?_
  refine gt_get_dep C hw dX0_set_1 ?_
  refine lv_if_ne (tgt := 10) hx hb dX0_set_4 (by decide) (fun c1 => ?_) (fun c1 => ?_)
  · have h := h.1 c1
    refine lv_aload_n hx hb dX0_set_10 rfl (lv_at hl 0 rfl) ?_
    refine lv_aload_n hx hb dX0_set_11 rfl (lv_at hl 0 rfl) ?_
    refine gt_get_dep C hw dX0_set_12 ?_
    refine g_callVi (rest := []) C (c_X0_keyOf l D a d _ _ _ _ _ _ _ _ _ _ _ _ _ dep h) 50 RX0 (lw_V q93 q95 qs0 q23 q96) (na := 1) (by decide +kernel) rfl (by decide) 0 rfl rfl rfl hw hl.1 rfl (Nat.le_of_ble_eq_true rfl) ⟨Nat.le_refl _, Nat.le_refl _⟩ dX0_set_15 (fun r_2 u_2 H locs h hw => ?_)
    refine lv_istore_n (lv' := [(2, .int r_2), (0, .ref (a 0)), (1, .int z1)]) hx hb dX0_set_18 rfl hl (by decide) rfl (fun ls hl => ?_)
    refine lv_aload_n hx hb dX0_set_19 rfl (lv_at hl 1 rfl) ?_
    refine lv_iload_n hx hb dX0_set_20 rfl (lv_at hl 0 rfl) ?_
    refine g_callVi (rest := []) C (c_X0_present l D a d _ _ _ _ _ _ _ _ _ _ _ _ _ r_2 h) 83 RX0 (lw_V q100 q102 qs1 q23 q103) (na := 1) (by decide +kernel) rfl (by decide) 0 rfl rfl rfl hw hl.1 rfl (Nat.le_of_ble_eq_true rfl) ⟨Nat.le_refl _, Nat.le_refl _⟩ dX0_set_21 (fun r_3 u_3 H locs h hw => ?_)
    obtain ⟨lf_3, sl_3⟩ := u_3
    have hw : gSt D A s (gT a d dep sub lv siz ky va tot lf_3 sl_3 mk mv pk pv) H locs := hw
    refine lv_istore_n (lv' := [(3, .int r_3), (2, .int r_2), (0, .ref (a 0)), (1, .int z1)]) hx hb dX0_set_24 rfl hl (by decide) rfl (fun ls hl => ?_)
    refine lv_iload_n hx hb dX0_set_25 rfl (lv_at hl 0 rfl) ?_
    obtain ⟨J4, hJ_4, h⟩ := h
    have join_4 : ∀  (H : Heap) (locs : List Loc) (ls : Array Slot), J4  → gSt D A s (gT a d dep sub lv siz ky va tot lf_3 sl_3 mk mv pk pv) H locs → lv_has ls 4 [(0, .ref (a 0)), (1, .int z1), (2, .int r_2), (3, .int r_3)] → W p l e (gRm 5 112) s m args below meth c H locs 0 0 Q (F0 m 41 ls []) := by
      intro  H locs ls hi hw hl
      have h := hJ_4  hi
      refine lv_aload_n hx hb dX0_set_41 rfl (lv_at hl 0 rfl) ?_
      refine lv_iload_n hx hb dX0_set_42 rfl (lv_at hl 2 rfl) ?_
      refine lv_iload_n hx hb dX0_set_43 rfl (lv_at hl 1 rfl) ?_
      refine g_callVv (rest := []) C (c_X0_put l D a d _ _ _ _ _ _ _ _ _ _ _ _ _ r_2 z1 h) 89 RX0 (lw_V q113 q115 qs4 q23 q116) (na := 2) (by decide +kernel) rfl (by decide) 0 rfl rfl rfl hw hl.1 rfl (Nat.le_of_ble_eq_true rfl) ⟨Nat.le_refl _, Nat.le_refl _⟩ dX0_set_44 (fun u_5 H locs h hw => ?_)
      obtain ⟨lv_5, siz_5, ky_5, va_5, tot_5, lf_5, sl_5, pk_5, pv_5⟩ := u_5
      have hw : gSt D A s (gT a d dep sub lv_5 siz_5 ky_5 va_5 tot_5 lf_5 sl_5 mk mv pk_5 pv_5) H locs := hw
      refine lv_iload_n hx hb dX0_set_47 rfl (lv_at hl 3 rfl) ?_
      refine lv_if_eq (tgt := 55) hx hb dX0_set_48 (by decide) (fun c6 => ?_) (fun c6 => ?_)
      · have h := h.1 c6
        refine lv_iconst (v := 0) hx hb dX0_set_55 (by decide) ?_
        exact ret 0 (lv_5, siz_5, ky_5, va_5, tot_5, lf_5, sl_5, pk_5, pv_5) _ _ _ _ h rfl hw dX0_set_56
      · have h := h.2 c6
        refine lv_iconst (v := 1) hx hb dX0_set_51 (by decide) ?_
        refine lv_goto (tgt := 56) hx hb dX0_set_52 (by decide) ?_
        exact ret 1 (lv_5, siz_5, ky_5, va_5, tot_5, lf_5, sl_5, pk_5, pv_5) _ _ _ _ h rfl hw dX0_set_56
    refine lv_if_ne (tgt := 41) hx hb dX0_set_26 (by decide) (fun c7 => ?_) (fun c7 => ?_)
    · have h := h.1 c7
      exact join_4  _ _ _ h hw (lv_sub hl [2, 3, 1, 0] rfl)
    · have h := h.2 c7
      refine lv_aload_n hx hb dX0_set_29 rfl (lv_at hl 2 rfl) ?_
      refine gt_get_tot C hw dX0_set_30 ?_
      refine lv_bipush (v := 60) hx hb dX0_set_33 (by decide) ?_
      refine lv_icmp_lt (tgt := 41) hx hb dX0_set_35 (by decide) (fun c8 => ?_) (fun c8 => ?_)
      · have h := h.1 c8
        exact join_4  _ _ _ h hw (lv_sub hl [2, 3, 1, 0] rfl)
      · have h := h.2 c8
        refine lv_bipush (v := (-2)) hx hb dX0_set_38 (by decide) ?_
        exact ret (-2) (lv, siz, ky, va, tot, lf_3, sl_3, pk, pv) _ _ _ _ h rfl hw dX0_set_40
  · have h := h.2 c1
    refine lv_bipush (v := (-3)) hx hb dX0_set_7 (by decide) ?_
    exact ret (-3) (lv, siz, ky, va, tot, lf, sl, pk, pv) _ _ _ _ h rfl hw dX0_set_9
set_option maxHeartbeats 4000000 in
set_option maxRecDepth 100000 in
theorem c_X0_increment (l : Launch) (D : va_G) (a : Nat → Nat) (d : ClassId) (dep : Int32) (sub : Nat → Int32) (lv : Int32) (siz : Nat → Int32) (ky : Nat → Int32) (va : Nat → Int32) (tot : Int32) (lf : Int32) (sl : Int32) (mk : Nat → Int32) (mv : Nat → Int32) (pk : Nat → Int32) (pv : Nat → Int32) (z1 : Int32) {K : Int32 → Int32 → (Nat → Int32) → (Nat → Int32) → (Nat → Int32) → Int32 → Int32 → Int32 → (Nat → Int32) → (Nat → Int32) → Prop} (h : X0_increment_w dep sub lv siz ky va tot lf sl pk pv z1 K) : CTi l yX0_increment cX0_increment 5 (some .int)  (gRm 5 112) D d [.ref (a 0), .int z1] (gT a d dep sub lv siz ky va tot lf sl mk mv pk pv) (S := Int32 × (Nat → Int32) × (Nat → Int32) × (Nat → Int32) × Int32 × Int32 × Int32 × (Nat → Int32) × (Nat → Int32)) (fun (r : Int32) (u : Int32 × (Nat → Int32) × (Nat → Int32) × (Nat → Int32) × Int32 × Int32 × Int32 × (Nat → Int32) × (Nat → Int32)) => K r u.1 u.2.1 u.2.2.1 u.2.2.2.1 u.2.2.2.2.1 u.2.2.2.2.2.1 u.2.2.2.2.2.2.1 u.2.2.2.2.2.2.2.1 u.2.2.2.2.2.2.2.2) (fun u => gT a d dep sub u.1 u.2.1 u.2.2.1 u.2.2.2.1 u.2.2.2.2.1 u.2.2.2.2.2.1 u.2.2.2.2.2.2.1 mk mv u.2.2.2.2.2.2.2.1 u.2.2.2.2.2.2.2.2) := by
  refine gEnter_i (by decide) (Nat.le_of_ble_eq_true rfl) ?_
  intro p e s m args below meth c A Q ls C ret hl hw
  have C : gCx RX0 cX0_increment 5 (some .int) D d A p s m args meth c := C
  have hx := C.1.1
  have hb := C.1.2.1
  have hown := C.1.2.2.2.1
  have hts := C.1.2.2.2.2
  have hl : lv_has ls 5 [(0, .ref (a 0)), (1, .int z1)] := hl
  unfold X0_increment_w at h
  refine lv_aload_n hx hb dX0_increment_0 rfl (lv_at hl 0 rfl) ?_
  refine gt_get_dep C hw dX0_increment_1 ?_
  refine lv_if_ne (tgt := 10) hx hb dX0_increment_4 (by decide) (fun c1 => ?_) (fun c1 => ?_)
  · have h := h.1 c1
    refine lv_aload_n hx hb dX0_increment_10 rfl (lv_at hl 0 rfl) ?_
    refine lv_aload_n hx hb dX0_increment_11 rfl (lv_at hl 0 rfl) ?_
    refine gt_get_dep C hw dX0_increment_12 ?_
    refine g_callVi (rest := []) C (c_X0_keyOf l D a d _ _ _ _ _ _ _ _ _ _ _ _ _ dep h) 50 RX0 (lw_V q93 q95 qs0 q23 q96) (na := 1) (by decide +kernel) rfl (by decide) 0 rfl rfl rfl hw hl.1 rfl (Nat.le_of_ble_eq_true rfl) ⟨Nat.le_refl _, Nat.le_refl _⟩ dX0_increment_15 (fun r_2 u_2 H locs h hw => ?_)
    refine lv_istore_n (lv' := [(2, .int r_2), (0, .ref (a 0)), (1, .int z1)]) hx hb dX0_increment_18 rfl hl (by decide) rfl (fun ls hl => ?_)
    refine lv_aload_n hx hb dX0_increment_19 rfl (lv_at hl 1 rfl) ?_
    refine lv_iload_n hx hb dX0_increment_20 rfl (lv_at hl 0 rfl) ?_
    refine g_callVi (rest := []) C (c_X0_present l D a d _ _ _ _ _ _ _ _ _ _ _ _ _ r_2 h) 83 RX0 (lw_V q100 q102 qs1 q23 q103) (na := 1) (by decide +kernel) rfl (by decide) 0 rfl rfl rfl hw hl.1 rfl (Nat.le_of_ble_eq_true rfl) ⟨Nat.le_refl _, Nat.le_refl _⟩ dX0_increment_21 (fun r_3 u_3 H locs h hw => ?_)
    obtain ⟨lf_3, sl_3⟩ := u_3
    have hw : gSt D A s (gT a d dep sub lv siz ky va tot lf_3 sl_3 mk mv pk pv) H locs := hw
    refine lv_istore_n (lv' := [(3, .int r_3), (2, .int r_2), (0, .ref (a 0)), (1, .int z1)]) hx hb dX0_increment_24 rfl hl (by decide) rfl (fun ls hl => ?_)
    refine lv_iload_n hx hb dX0_increment_25 rfl (lv_at hl 0 rfl) ?_
    obtain ⟨J4, hJ_4, h⟩ := h
    have join_4 : ∀  (H : Heap) (locs : List Loc) (ls : Array Slot), J4  → gSt D A s (gT a d dep sub lv siz ky va tot lf_3 sl_3 mk mv pk pv) H locs → lv_has ls 5 [(0, .ref (a 0)), (1, .int z1), (2, .int r_2), (3, .int r_3)] → W p l e (gRm 5 112) s m args below meth c H locs 0 0 Q (F0 m 41 ls []) := by
      intro  H locs ls hi hw hl
      have h := hJ_4  hi
      refine lv_iload_n hx hb dX0_increment_41 rfl (lv_at hl 3 rfl) ?_
      refine lv_if_eq (tgt := 67) hx hb dX0_increment_42 (by decide) (fun c5 => ?_) (fun c5 => ?_)
      · have h := h.1 c5
        refine lv_iload_n hx hb dX0_increment_67 rfl (lv_at hl 1 rfl) ?_
        refine lv_istore (lv' := [(4, .int z1), (0, .ref (a 0)), (1, .int z1), (2, .int r_2), (3, .int r_3)]) hx hb dX0_increment_68 hl (by decide) rfl (fun ls hl => ?_)
        refine lv_aload_n hx hb dX0_increment_70 rfl (lv_at hl 1 rfl) ?_
        refine lv_iload_n hx hb dX0_increment_71 rfl (lv_at hl 3 rfl) ?_
        refine lv_iload hx hb dX0_increment_72 (lv_at hl 0 rfl) ?_
        refine g_callVv (rest := []) C (c_X0_put l D a d _ _ _ _ _ _ _ _ _ _ _ _ _ r_2 z1 h) 89 RX0 (lw_V q113 q115 qs4 q23 q116) (na := 2) (by decide +kernel) rfl (by decide) 0 rfl rfl rfl hw hl.1 rfl (Nat.le_of_ble_eq_true rfl) ⟨Nat.le_refl _, Nat.le_refl _⟩ dX0_increment_74 (fun u_6 H locs h hw => ?_)
        obtain ⟨lv_6, siz_6, ky_6, va_6, tot_6, lf_6, sl_6, pk_6, pv_6⟩ := u_6
        have hw : gSt D A s (gT a d dep sub lv_6 siz_6 ky_6 va_6 tot_6 lf_6 sl_6 mk mv pk_6 pv_6) H locs := hw
        refine lv_iload hx hb dX0_increment_77 (lv_at hl 0 rfl) ?_
        exact ret z1 (lv_6, siz_6, ky_6, va_6, tot_6, lf_6, sl_6, pk_6, pv_6) _ _ _ _ h rfl hw dX0_increment_79
      · have h := h.2 c5
        refine lv_aload_n hx hb dX0_increment_45 rfl (lv_at hl 0 rfl) ?_
        refine gt_get_va C hw dX0_increment_46 ?_
        refine lv_aload_n hx hb dX0_increment_49 rfl (lv_at hl 0 rfl) ?_
        refine gt_get_lf C hw dX0_increment_50 ?_
        refine lv_bipush (v := 8) hx hb dX0_increment_53 (by decide) ?_
        refine lv_imul hx hb dX0_increment_55 ?_
        refine lv_aload_n hx hb dX0_increment_56 rfl (lv_at hl 0 rfl) ?_
        refine gt_get_sl C hw dX0_increment_57 ?_
        refine lv_iadd hx hb dX0_increment_60 ?_
        have b7 := h.1
        have h := h.2
        refine gt_ald_va C hw b7 dX0_increment_61 ?_
        refine lv_iload_n hx hb dX0_increment_62 rfl (lv_at hl 1 rfl) ?_
        refine lv_iadd hx hb dX0_increment_63 ?_
        refine lv_goto (tgt := 68) hx hb dX0_increment_64 (by decide) ?_
        refine lv_istore (lv' := [(4, .int ((va ((lf_3 * 8) + sl_3).toNatClampNeg) + z1)), (0, .ref (a 0)), (1, .int z1), (2, .int r_2), (3, .int r_3)]) hx hb dX0_increment_68 hl (by decide) rfl (fun ls hl => ?_)
        refine lv_aload_n hx hb dX0_increment_70 rfl (lv_at hl 1 rfl) ?_
        refine lv_iload_n hx hb dX0_increment_71 rfl (lv_at hl 3 rfl) ?_
        refine lv_iload hx hb dX0_increment_72 (lv_at hl 0 rfl) ?_
        refine g_callVv (rest := []) C (c_X0_put l D a d _ _ _ _ _ _ _ _ _ _ _ _ _ r_2 ((va ((lf_3 * 8) + sl_3).toNatClampNeg) + z1) h) 89 RX0 (lw_V q113 q115 qs4 q23 q116) (na := 2) (by decide +kernel) rfl (by decide) 0 rfl rfl rfl hw hl.1 rfl (Nat.le_of_ble_eq_true rfl) ⟨Nat.le_refl _, Nat.le_refl _⟩ dX0_increment_74 (fun u_8 H locs h hw => ?_)
        obtain ⟨lv_8, siz_8, ky_8, va_8, tot_8, lf_8, sl_8, pk_8, pv_8⟩ := u_8
        have hw : gSt D A s (gT a d dep sub lv_8 siz_8 ky_8 va_8 tot_8 lf_8 sl_8 mk mv pk_8 pv_8) H locs := hw
        refine lv_iload hx hb dX0_increment_77 (lv_at hl 0 rfl) ?_
        exact ret ((va ((lf_3 * 8) + sl_3).toNatClampNeg) + z1) (lv_8, siz_8, ky_8, va_8, tot_8, lf_8, sl_8, pk_8, pv_8) _ _ _ _ h rfl hw dX0_increment_79
    refine lv_if_ne (tgt := 41) hx hb dX0_increment_26 (by decide) (fun c9 => ?_) (fun c9 => ?_)
    · have h := h.1 c9
      exact join_4  _ _ _ h hw (lv_sub hl [2, 3, 1, 0] rfl)
    · have h := h.2 c9
      refine lv_aload_n hx hb dX0_increment_29 rfl (lv_at hl 2 rfl) ?_
      refine gt_get_tot C hw dX0_increment_30 ?_
      refine lv_bipush (v := 60) hx hb dX0_increment_33 (by decide) ?_
      refine lv_icmp_lt (tgt := 41) hx hb dX0_increment_35 (by decide) (fun c10 => ?_) (fun c10 => ?_)
      · have h := h.1 c10
        exact join_4  _ _ _ h hw (lv_sub hl [2, 3, 1, 0] rfl)
      · have h := h.2 c10
        refine lv_bipush (v := (-2)) hx hb dX0_increment_38 (by decide) ?_
        exact ret (-2) (lv, siz, ky, va, tot, lf_3, sl_3, pk, pv) _ _ _ _ h rfl hw dX0_increment_40
  · have h := h.2 c1
    refine lv_bipush (v := (-3)) hx hb dX0_increment_7 (by decide) ?_
    exact ret (-3) (lv, siz, ky, va, tot, lf, sl, pk, pv) _ _ _ _ h rfl hw dX0_increment_9
set_option maxHeartbeats 4000000 in
set_option maxRecDepth 100000 in
theorem c_X0_endOf (l : Launch) (D : va_G) (a : Nat → Nat) (d : ClassId) (dep : Int32) (sub : Nat → Int32) (lv : Int32) (siz : Nat → Int32) (ky : Nat → Int32) (va : Nat → Int32) (tot : Int32) (lf : Int32) (sl : Int32) (mk : Nat → Int32) (mv : Nat → Int32) (pk : Nat → Int32) (pv : Nat → Int32) (z1 : Int32) {K : Int32 → Prop} (h : X0_endOf_w sub z1 K) : CTi l yX0_endOf cX0_endOf 2 (some .int)  (gRm 2 43) D d [.ref (a 0), .int z1] (gT a d dep sub lv siz ky va tot lf sl mk mv pk pv) (S := Unit) (fun (r : Int32) (u : Unit) => K r) (fun u => gT a d dep sub lv siz ky va tot lf sl mk mv pk pv) := by
  refine gEnter_i (by decide) (Nat.le_of_ble_eq_true rfl) ?_
  intro p e s m args below meth c A Q ls C ret hl hw
  have C : gCx RX0 cX0_endOf 2 (some .int) D d A p s m args meth c := C
  have hx := C.1.1
  have hb := C.1.2.1
  have hown := C.1.2.2.2.1
  have hts := C.1.2.2.2.2
  have hl : lv_has ls 2 [(0, .ref (a 0)), (1, .int z1)] := hl
  unfold X0_endOf_w at h
  refine lv_iload_n hx hb dX0_endOf_0 rfl (lv_at hl 1 rfl) ?_
  refine lv_if_ne (tgt := 9) hx hb dX0_endOf_1 (by decide) (fun c1 => ?_) (fun c1 => ?_)
  · have h := h.1 c1
    refine lv_aload_n hx hb dX0_endOf_9 rfl (lv_at hl 0 rfl) ?_
    refine lv_iload_n hx hb dX0_endOf_10 rfl (lv_at hl 1 rfl) ?_
    refine g_callVi (rest := []) C (c_X0_keyOf l D a d _ _ _ _ _ _ _ _ _ _ _ _ _ z1 h) 50 RX0 (lw_V q93 q95 qs0 q23 q96) (na := 1) (by decide +kernel) rfl (by decide) 0 rfl rfl rfl hw hl.1 rfl (Nat.le_of_ble_eq_true rfl) ⟨Nat.le_refl _, Nat.le_refl _⟩ dX0_endOf_11 (fun r_2 u_2 H locs h hw => ?_)
    refine lv_iload_n hx hb dX0_endOf_14 rfl (lv_at hl 1 rfl) ?_
    refine lv_iconst (v := 1) hx hb dX0_endOf_15 (by decide) ?_
    refine lv_isub hx hb dX0_endOf_16 ?_
    refine g_callSi (rest := [.int r_2]) C (c_X0_unit l D d (z1 - 1) h) 45 (lw_S q97 q98 q23 q99) (na := 1) (by decide +kernel) rfl (by decide) hw hl.1 rfl (Nat.le_of_ble_eq_true rfl) ⟨Nat.le_refl _, Nat.le_refl _⟩ dX0_endOf_17 (fun r_3 H locs h hw => ?_)
    refine lv_iadd hx hb dX0_endOf_20 ?_
    exact ret (r_2 + r_3) () _ _ _ _ h rfl hw dX0_endOf_21
  · have h := h.2 c1
    refine lv_ldc (v := 2097152) hx hb hown (hts _ q112) dX0_endOf_4 ?_
    refine lv_goto (tgt := 21) hx hb dX0_endOf_6 (by decide) ?_
    exact ret 2097152 () _ _ _ _ h rfl hw dX0_endOf_21
set_option maxHeartbeats 4000000 in
set_option maxRecDepth 100000 in
theorem c_X0_removeFound (l : Launch) (D : va_G) (a : Nat → Nat) (d : ClassId) (dep : Int32) (sub : Nat → Int32) (lv : Int32) (siz : Nat → Int32) (ky : Nat → Int32) (va : Nat → Int32) (tot : Int32) (lf : Int32) (sl : Int32) (mk : Nat → Int32) (mv : Nat → Int32) (pk : Nat → Int32) (pv : Nat → Int32) {K : Int32 → (Nat → Int32) → (Nat → Int32) → (Nat → Int32) → Int32 → Prop} (h : X0_removeFound_w lv siz ky va tot lf sl K) : CTv l yX0_removeFound cX0_removeFound 2  (gRm 1 23) D d [.ref (a 0)] (gT a d dep sub lv siz ky va tot lf sl mk mv pk pv) (S := Int32 × (Nat → Int32) × (Nat → Int32) × (Nat → Int32) × Int32) (fun (u : Int32 × (Nat → Int32) × (Nat → Int32) × (Nat → Int32) × Int32) => K u.1 u.2.1 u.2.2.1 u.2.2.2.1 u.2.2.2.2) (fun u => gT a d dep sub u.1 u.2.1 u.2.2.1 u.2.2.2.1 u.2.2.2.2 lf sl mk mv pk pv) := by
  refine gEnter_v (by decide) (Nat.le_of_ble_eq_true rfl) ?_
  intro p e s m args below meth c A Q ls C ret hl hw
  have C : gCx RX0 cX0_removeFound 2 none D d A p s m args meth c := C
  have hx := C.1.1
  have hb := C.1.2.1
  have hown := C.1.2.2.2.1
  have hts := C.1.2.2.2.2
  have hl : lv_has ls 2 [(0, .ref (a 0))] := hl
  unfold X0_removeFound_w at h
  refine lv_aload_n hx hb dX0_removeFound_0 rfl (lv_at hl 0 rfl) ?_
  refine gt_get_siz C hw dX0_removeFound_1 ?_
  refine lv_aload_n hx hb dX0_removeFound_4 rfl (lv_at hl 0 rfl) ?_
  refine gt_get_lf C hw dX0_removeFound_5 ?_
  refine lv_dup2_11 hx hb dX0_removeFound_8 rfl rfl ?_
  have b1 := h.1
  have h := h.2
  refine gt_ald_siz C hw b1 dX0_removeFound_9 ?_
  refine lv_iconst (v := 1) hx hb dX0_removeFound_10 (by decide) ?_
  refine lv_isub hx hb dX0_removeFound_11 ?_
  have b2 := h.1
  have h := h.2
  refine gt_ast_siz C hw b2 dX0_removeFound_12 (fun H locs hw => ?_)
  refine lv_aload_n hx hb dX0_removeFound_13 rfl (lv_at hl 0 rfl) ?_
  refine lv_dup hx hb dX0_removeFound_14 rfl ?_
  refine gt_get_tot C hw dX0_removeFound_15 ?_
  refine lv_iconst (v := 1) hx hb dX0_removeFound_18 (by decide) ?_
  refine lv_isub hx hb dX0_removeFound_19 ?_
  refine gt_put_tot C hw dX0_removeFound_20 (fun H locs hw => ?_)
  refine lv_aload_n hx hb dX0_removeFound_23 rfl (lv_at hl 0 rfl) ?_
  refine gt_get_sl C hw dX0_removeFound_24 ?_
  refine lv_istore_n (lv' := [(1, .int sl), (0, .ref (a 0))]) hx hb dX0_removeFound_27 rfl hl (by decide) rfl (fun ls hl => ?_)
  obtain ⟨I3, μ3, h0_3, hI_3⟩ := h
  have loop_3 : ∀ (k : Nat) (x1_3 : Int32) (ky_3 : Nat → Int32) (va_3 : Nat → Int32) (H : Heap) (locs : List Loc) (ls : Array Slot), μ3 x1_3 ky_3 va_3 < k → I3 x1_3 ky_3 va_3 → gSt D A s (gT a d dep sub lv (upd siz lf.toNatClampNeg ((siz lf.toNatClampNeg) - 1)) ky_3 va_3 (tot - 1) lf sl mk mv pk pv) H locs → lv_has ls 2 [(0, .ref (a 0)), (1, .int x1_3)] → W p l e (gRm 1 23) s m args below meth c H locs 0 0 Q (F0 m 28 ls []) := by
    intro k
    induction k with
    | zero => intro x1_3 ky_3 va_3 H locs ls hk; exact absurd hk (Nat.not_lt_zero _)
    | succ k ih_3 =>
      intro x1_3 ky_3 va_3 H locs ls hk_3 hi hw hl
      have h := hI_3 x1_3 ky_3 va_3 hi
      refine lv_iload_n hx hb dX0_removeFound_28 rfl (lv_at hl 1 rfl) ?_
      refine lv_aload_n hx hb dX0_removeFound_29 rfl (lv_at hl 0 rfl) ?_
      refine gt_get_siz C hw dX0_removeFound_30 ?_
      refine lv_aload_n hx hb dX0_removeFound_33 rfl (lv_at hl 0 rfl) ?_
      refine gt_get_lf C hw dX0_removeFound_34 ?_
      have b4 := h.1
      have h := h.2
      refine gt_ald_siz C hw b4 dX0_removeFound_37 ?_
      refine lv_icmp_ge (tgt := 107) hx hb dX0_removeFound_38 (by decide) (fun c5 => ?_) (fun c5 => ?_)
      · have h := h.1 c5
        refine lv_aload_n hx hb dX0_removeFound_107 rfl (lv_at hl 0 rfl) ?_
        refine gt_get_siz C hw dX0_removeFound_108 ?_
        refine lv_aload_n hx hb dX0_removeFound_111 rfl (lv_at hl 0 rfl) ?_
        refine gt_get_lf C hw dX0_removeFound_112 ?_
        have b6 := h.1
        have h := h.2
        refine gt_ald_siz C hw b6 dX0_removeFound_115 ?_
        refine lv_if_gt (tgt := 127) hx hb dX0_removeFound_116 (by decide) (fun c7 => ?_) (fun c7 => ?_)
        · have h := h.1 c7
          exact ret (lv, (upd siz lf.toNatClampNeg ((siz lf.toNatClampNeg) - 1)), ky_3, va_3, (tot - 1)) _ _ _ _ h hw dX0_removeFound_127
        · have h := h.2 c7
          refine lv_aload_n hx hb dX0_removeFound_119 rfl (lv_at hl 0 rfl) ?_
          refine gt_get_lv C hw dX0_removeFound_120 ?_
          refine lv_iconst (v := 1) hx hb dX0_removeFound_123 (by decide) ?_
          refine lv_icmp_ne (tgt := 128) hx hb dX0_removeFound_124 (by decide) (fun c8 => ?_) (fun c8 => ?_)
          · have h := h.1 c8
            refine lv_aload_n hx hb dX0_removeFound_128 rfl (lv_at hl 0 rfl) ?_
            refine gt_get_lf C hw dX0_removeFound_129 ?_
            refine lv_istore_n (lv' := [(1, .int lf), (0, .ref (a 0))]) hx hb dX0_removeFound_132 rfl hl (by decide) rfl (fun ls hl => ?_)
            obtain ⟨I9, μ9, h0_9, hI_9⟩ := h
            have loop_9 : ∀ (k : Nat) (x1_9 : Int32) (siz_9 : Nat → Int32) (ky_9 : Nat → Int32) (va_9 : Nat → Int32) (H : Heap) (locs : List Loc) (ls : Array Slot), μ9 x1_9 siz_9 ky_9 va_9 < k → I9 x1_9 siz_9 ky_9 va_9 → gSt D A s (gT a d dep sub lv siz_9 ky_9 va_9 (tot - 1) lf sl mk mv pk pv) H locs → lv_has ls 2 [(0, .ref (a 0)), (1, .int x1_9)] → W p l e (gRm 1 23) s m args below meth c H locs 0 0 Q (F0 m 133 ls []) := by
              intro k
              induction k with
              | zero => intro x1_9 siz_9 ky_9 va_9 H locs ls hk; exact absurd hk (Nat.not_lt_zero _)
              | succ k ih_9 =>
                intro x1_9 siz_9 ky_9 va_9 H locs ls hk_9 hi hw hl
                have h := hI_9 x1_9 siz_9 ky_9 va_9 hi
                refine lv_iload_n hx hb dX0_removeFound_133 rfl (lv_at hl 1 rfl) ?_
                refine lv_iconst (v := 1) hx hb dX0_removeFound_134 (by decide) ?_
                refine lv_iadd hx hb dX0_removeFound_135 ?_
                refine lv_aload_n hx hb dX0_removeFound_136 rfl (lv_at hl 0 rfl) ?_
                refine gt_get_lv C hw dX0_removeFound_137 ?_
                refine lv_icmp_ge (tgt := 157) hx hb dX0_removeFound_140 (by decide) (fun c10 => ?_) (fun c10 => ?_)
                · have h := h.1 c10
                  refine lv_aload_n hx hb dX0_removeFound_157 rfl (lv_at hl 0 rfl) ?_
                  refine lv_dup hx hb dX0_removeFound_158 rfl ?_
                  refine gt_get_lv C hw dX0_removeFound_159 ?_
                  refine lv_iconst (v := 1) hx hb dX0_removeFound_162 (by decide) ?_
                  refine lv_isub hx hb dX0_removeFound_163 ?_
                  refine gt_put_lv C hw dX0_removeFound_164 (fun H locs hw => ?_)
                  exact ret ((lv - 1), siz_9, ky_9, va_9, (tot - 1)) _ _ _ _ h hw dX0_removeFound_167
                · have h := h.2 c10
                  refine lv_aload_n hx hb dX0_removeFound_143 rfl (lv_at hl 0 rfl) ?_
                  refine lv_iload_n hx hb dX0_removeFound_144 rfl (lv_at hl 1 rfl) ?_
                  refine lv_iconst (v := 1) hx hb dX0_removeFound_145 (by decide) ?_
                  refine lv_iadd hx hb dX0_removeFound_146 ?_
                  refine lv_iload_n hx hb dX0_removeFound_147 rfl (lv_at hl 1 rfl) ?_
                  refine g_callVv (rest := []) C (c_X0_copyLeaf l D a d _ _ _ _ _ _ _ _ _ _ _ _ _ (x1_9 + 1) x1_9 h) 67 RX0 (lw_V q133 q135 qs9 q23 q136) (na := 2) (by decide +kernel) rfl (by decide) 0 rfl rfl rfl hw hl.1 rfl (Nat.le_of_ble_eq_true rfl) ⟨Nat.le_refl _, Nat.le_refl _⟩ dX0_removeFound_148 (fun u_11 H locs h hw => ?_)
                  obtain ⟨siz_11, ky_11, va_11⟩ := u_11
                  have hw : gSt D A s (gT a d dep sub lv siz_11 ky_11 va_11 (tot - 1) lf sl mk mv pk pv) H locs := hw
                  refine lv_iinc (v := (x1_9 + 1)) (lv' := [(1, .int (x1_9 + 1)), (0, .ref (a 0))]) hx hb dX0_removeFound_151 hl (k := 1) rfl rfl (by decide) rfl (fun ls hl => ?_)
                  refine lv_goto (tgt := 133) hx hb dX0_removeFound_154 (by decide) ?_
                  exact ih_9 _ _ _ _ _ _ _ (Nat.lt_of_lt_of_le h.2 (Nat.le_of_lt_succ hk_9)) h.1 hw (lv_sub hl [1, 0] rfl)
            exact loop_9 _ _ _ _ _ _ _ _ (Nat.lt_succ_self _) h0_9 hw (lv_sub hl [1, 0] rfl)
          · have h := h.2 c8
            exact ret (lv, (upd siz lf.toNatClampNeg ((siz lf.toNatClampNeg) - 1)), ky_3, va_3, (tot - 1)) _ _ _ _ h hw dX0_removeFound_127
      · have h := h.2 c5
        refine lv_aload_n hx hb dX0_removeFound_41 rfl (lv_at hl 0 rfl) ?_
        refine gt_get_ky C hw dX0_removeFound_42 ?_
        refine lv_aload_n hx hb dX0_removeFound_45 rfl (lv_at hl 0 rfl) ?_
        refine gt_get_lf C hw dX0_removeFound_46 ?_
        refine lv_bipush (v := 8) hx hb dX0_removeFound_49 (by decide) ?_
        refine lv_imul hx hb dX0_removeFound_51 ?_
        refine lv_iload_n hx hb dX0_removeFound_52 rfl (lv_at hl 1 rfl) ?_
        refine lv_iadd hx hb dX0_removeFound_53 ?_
        refine lv_aload_n hx hb dX0_removeFound_54 rfl (lv_at hl 0 rfl) ?_
        refine gt_get_ky C hw dX0_removeFound_55 ?_
        refine lv_aload_n hx hb dX0_removeFound_58 rfl (lv_at hl 0 rfl) ?_
        refine gt_get_lf C hw dX0_removeFound_59 ?_
        refine lv_bipush (v := 8) hx hb dX0_removeFound_62 (by decide) ?_
        refine lv_imul hx hb dX0_removeFound_64 ?_
        refine lv_iload_n hx hb dX0_removeFound_65 rfl (lv_at hl 1 rfl) ?_
        refine lv_iadd hx hb dX0_removeFound_66 ?_
        refine lv_iconst (v := 1) hx hb dX0_removeFound_67 (by decide) ?_
        refine lv_iadd hx hb dX0_removeFound_68 ?_
        have b12 := h.1
        have h := h.2
        refine gt_ald_ky C hw b12 dX0_removeFound_69 ?_
        have b13 := h.1
        have h := h.2
        refine gt_ast_ky C hw b13 dX0_removeFound_70 (fun H locs hw => ?_)
        refine lv_aload_n hx hb dX0_removeFound_71 rfl (lv_at hl 0 rfl) ?_
        refine gt_get_va C hw dX0_removeFound_72 ?_
        refine lv_aload_n hx hb dX0_removeFound_75 rfl (lv_at hl 0 rfl) ?_
        refine gt_get_lf C hw dX0_removeFound_76 ?_
        refine lv_bipush (v := 8) hx hb dX0_removeFound_79 (by decide) ?_
        refine lv_imul hx hb dX0_removeFound_81 ?_
        refine lv_iload_n hx hb dX0_removeFound_82 rfl (lv_at hl 1 rfl) ?_
        refine lv_iadd hx hb dX0_removeFound_83 ?_
        refine lv_aload_n hx hb dX0_removeFound_84 rfl (lv_at hl 0 rfl) ?_
        refine gt_get_va C hw dX0_removeFound_85 ?_
        refine lv_aload_n hx hb dX0_removeFound_88 rfl (lv_at hl 0 rfl) ?_
        refine gt_get_lf C hw dX0_removeFound_89 ?_
        refine lv_bipush (v := 8) hx hb dX0_removeFound_92 (by decide) ?_
        refine lv_imul hx hb dX0_removeFound_94 ?_
        refine lv_iload_n hx hb dX0_removeFound_95 rfl (lv_at hl 1 rfl) ?_
        refine lv_iadd hx hb dX0_removeFound_96 ?_
        refine lv_iconst (v := 1) hx hb dX0_removeFound_97 (by decide) ?_
        refine lv_iadd hx hb dX0_removeFound_98 ?_
        have b14 := h.1
        have h := h.2
        refine gt_ald_va C hw b14 dX0_removeFound_99 ?_
        have b15 := h.1
        have h := h.2
        refine gt_ast_va C hw b15 dX0_removeFound_100 (fun H locs hw => ?_)
        refine lv_iinc (v := (x1_3 + 1)) (lv' := [(1, .int (x1_3 + 1)), (0, .ref (a 0))]) hx hb dX0_removeFound_101 hl (k := 1) rfl rfl (by decide) rfl (fun ls hl => ?_)
        refine lv_goto (tgt := 28) hx hb dX0_removeFound_104 (by decide) ?_
        exact ih_3 _ _ _ _ _ _ (Nat.lt_of_lt_of_le h.2 (Nat.le_of_lt_succ hk_3)) h.1 hw (lv_sub hl [1, 0] rfl)
  exact loop_3 _ _ _ _ _ _ _ (Nat.lt_succ_self _) h0_3 hw (lv_sub hl [1, 0] rfl)
set_option maxHeartbeats 4000000 in
set_option maxRecDepth 100000 in
theorem c_X0_kill (l : Launch) (D : va_G) (a : Nat → Nat) (d : ClassId) (dep : Int32) (sub : Nat → Int32) (lv : Int32) (siz : Nat → Int32) (ky : Nat → Int32) (va : Nat → Int32) (tot : Int32) (lf : Int32) (sl : Int32) (mk : Nat → Int32) (mv : Nat → Int32) (pk : Nat → Int32) (pv : Nat → Int32) {K : Int32 → Int32 → (Nat → Int32) → (Nat → Int32) → (Nat → Int32) → Int32 → Int32 → Int32 → Prop} (h : X0_kill_w dep sub lv siz ky va tot K) : CTi l yX0_kill cX0_kill 5 (some .int)  (gRm 3 64) D d [.ref (a 0)] (gT a d dep sub lv siz ky va tot lf sl mk mv pk pv) (S := Int32 × (Nat → Int32) × (Nat → Int32) × (Nat → Int32) × Int32 × Int32 × Int32) (fun (r : Int32) (u : Int32 × (Nat → Int32) × (Nat → Int32) × (Nat → Int32) × Int32 × Int32 × Int32) => K r u.1 u.2.1 u.2.2.1 u.2.2.2.1 u.2.2.2.2.1 u.2.2.2.2.2.1 u.2.2.2.2.2.2) (fun u => gT a d dep sub u.1 u.2.1 u.2.2.1 u.2.2.2.1 u.2.2.2.2.1 u.2.2.2.2.2.1 u.2.2.2.2.2.2 mk mv pk pv) := by
  refine gEnter_i (by decide) (Nat.le_of_ble_eq_true rfl) ?_
  intro p e s m args below meth c A Q ls C ret hl hw
  have C : gCx RX0 cX0_kill 5 (some .int) D d A p s m args meth c := C
  have hx := C.1.1
  have hb := C.1.2.1
  have hown := C.1.2.2.2.1
  have hts := C.1.2.2.2.2
  have hl : lv_has ls 5 [(0, .ref (a 0))] := hl
  unfold X0_kill_w at h
  refine lv_aload_n hx hb dX0_kill_0 rfl (lv_at hl 0 rfl) ?_
  refine lv_aload_n hx hb dX0_kill_1 rfl (lv_at hl 0 rfl) ?_
  refine gt_get_dep C hw dX0_kill_2 ?_
  refine g_callVi (rest := []) C (c_X0_keyOf l D a d _ _ _ _ _ _ _ _ _ _ _ _ _ dep h) 50 RX0 (lw_V q93 q95 qs0 q23 q96) (na := 1) (by decide +kernel) rfl (by decide) 0 rfl rfl rfl hw hl.1 rfl (Nat.le_of_ble_eq_true rfl) ⟨Nat.le_refl _, Nat.le_refl _⟩ dX0_kill_5 (fun r_1 u_1 H locs h hw => ?_)
  refine lv_istore_n (lv' := [(1, .int r_1), (0, .ref (a 0))]) hx hb dX0_kill_8 rfl hl (by decide) rfl (fun ls hl => ?_)
  refine lv_aload_n hx hb dX0_kill_9 rfl (lv_at hl 1 rfl) ?_
  refine lv_aload_n hx hb dX0_kill_10 rfl (lv_at hl 1 rfl) ?_
  refine gt_get_dep C hw dX0_kill_11 ?_
  refine g_callVi (rest := []) C (c_X0_endOf l D a d _ _ _ _ _ _ _ _ _ _ _ _ _ dep h) 92 RX0 (lw_V q145 q147 qs10 q23 q148) (na := 1) (by decide +kernel) rfl (by decide) 0 rfl rfl rfl hw hl.1 rfl (Nat.le_of_ble_eq_true rfl) ⟨Nat.le_refl _, Nat.le_refl _⟩ dX0_kill_14 (fun r_2 u_2 H locs h hw => ?_)
  refine lv_istore_n (lv' := [(2, .int r_2), (1, .int r_1), (0, .ref (a 0))]) hx hb dX0_kill_17 rfl hl (by decide) rfl (fun ls hl => ?_)
  refine lv_iconst (v := 0) hx hb dX0_kill_18 (by decide) ?_
  refine lv_istore_n (lv' := [(3, .int 0), (2, .int r_2), (1, .int r_1), (0, .ref (a 0))]) hx hb dX0_kill_19 rfl hl (by decide) rfl (fun ls hl => ?_)
  refine lv_aload_n hx hb dX0_kill_20 rfl (lv_at hl 3 rfl) ?_
  refine lv_iload_n hx hb dX0_kill_21 rfl (lv_at hl 2 rfl) ?_
  refine g_callVv (rest := []) C (c_X0_seek l D a d _ _ _ _ _ _ _ _ _ _ _ _ _ r_1 h) 59 RX0 (lw_V q104 q106 qs2 q23 q107) (na := 1) (by decide +kernel) rfl (by decide) 0 rfl rfl rfl hw hl.1 rfl (Nat.le_of_ble_eq_true rfl) ⟨Nat.le_refl _, Nat.le_refl _⟩ dX0_kill_22 (fun u_3 H locs h hw => ?_)
  obtain ⟨lf_3, sl_3⟩ := u_3
  have hw : gSt D A s (gT a d dep sub lv siz ky va tot lf_3 sl_3 mk mv pk pv) H locs := hw
  refine lv_iconst (v := 0) hx hb dX0_kill_25 (by decide) ?_
  refine lv_istore (lv' := [(4, .int 0), (3, .int 0), (2, .int r_2), (1, .int r_1), (0, .ref (a 0))]) hx hb dX0_kill_26 hl (by decide) rfl (fun ls hl => ?_)
  obtain ⟨I4, μ4, h0_4, hI_4⟩ := h
  have loop_4 : ∀ (k : Nat) (x3_4 : Int32) (x4_4 : Int32) (lv_4 : Int32) (siz_4 : Nat → Int32) (ky_4 : Nat → Int32) (va_4 : Nat → Int32) (tot_4 : Int32) (lf_4 : Int32) (sl_4 : Int32) (H : Heap) (locs : List Loc) (ls : Array Slot), μ4 x3_4 x4_4 lv_4 siz_4 ky_4 va_4 tot_4 lf_4 sl_4 < k → I4 x3_4 x4_4 lv_4 siz_4 ky_4 va_4 tot_4 lf_4 sl_4 → gSt D A s (gT a d dep sub lv_4 siz_4 ky_4 va_4 tot_4 lf_4 sl_4 mk mv pk pv) H locs → lv_has ls 5 [(0, .ref (a 0)), (1, .int r_1), (2, .int r_2), (3, .int x3_4), (4, .int x4_4)] → W p l e (gRm 3 64) s m args below meth c H locs 0 0 Q (F0 m 28 ls []) := by
    intro k
    induction k with
    | zero => intro x3_4 x4_4 lv_4 siz_4 ky_4 va_4 tot_4 lf_4 sl_4 H locs ls hk; exact absurd hk (Nat.not_lt_zero _)
    | succ k ih_4 =>
      intro x3_4 x4_4 lv_4 siz_4 ky_4 va_4 tot_4 lf_4 sl_4 H locs ls hk_4 hi hw hl
      have h := hI_4 x3_4 x4_4 lv_4 siz_4 ky_4 va_4 tot_4 lf_4 sl_4 hi
      refine lv_iload hx hb dX0_kill_28 (lv_at hl 4 rfl) ?_
      refine lv_bipush (v := 60) hx hb dX0_kill_30 (by decide) ?_
      refine lv_icmp_ge (tgt := 61) hx hb dX0_kill_32 (by decide) (fun c5 => ?_) (fun c5 => ?_)
      · have h := h.1 c5
        refine lv_iload_n hx hb dX0_kill_61 rfl (lv_at hl 3 rfl) ?_
        exact ret x3_4 (lv_4, siz_4, ky_4, va_4, tot_4, lf_4, sl_4) _ _ _ _ h rfl hw dX0_kill_62
      · have h := h.2 c5
        refine lv_aload_n hx hb dX0_kill_35 rfl (lv_at hl 0 rfl) ?_
        refine g_callVi (rest := []) C (c_X0_found l D a d _ _ _ _ _ _ _ _ _ _ _ _ _  h) 63 RX0 (lw_V q108 q110 qs3 q23 q111) (na := 0) (by decide +kernel) rfl (by decide) 0 rfl rfl rfl hw hl.1 rfl (Nat.le_of_ble_eq_true rfl) ⟨Nat.le_refl _, Nat.le_refl _⟩ dX0_kill_36 (fun r_6 u_6 H locs h hw => ?_)
        refine lv_iload_n hx hb dX0_kill_39 rfl (lv_at hl 2 rfl) ?_
        refine lv_icmp_ge (tgt := 61) hx hb dX0_kill_40 (by decide) (fun c7 => ?_) (fun c7 => ?_)
        · have h := h.1 c7
          refine lv_iload_n hx hb dX0_kill_61 rfl (lv_at hl 3 rfl) ?_
          exact ret x3_4 (lv_4, siz_4, ky_4, va_4, tot_4, lf_4, sl_4) _ _ _ _ h rfl hw dX0_kill_62
        · have h := h.2 c7
          refine lv_aload_n hx hb dX0_kill_43 rfl (lv_at hl 0 rfl) ?_
          refine g_callVv (rest := []) C (c_X0_removeFound l D a d _ _ _ _ _ _ _ _ _ _ _ _ _  h) 95 RX0 (lw_V q149 q151 qs11 q23 q152) (na := 0) (by decide +kernel) rfl (by decide) 0 rfl rfl rfl hw hl.1 rfl (Nat.le_of_ble_eq_true rfl) ⟨Nat.le_refl _, Nat.le_refl _⟩ dX0_kill_44 (fun u_8 H locs h hw => ?_)
          obtain ⟨lv_8, siz_8, ky_8, va_8, tot_8⟩ := u_8
          have hw : gSt D A s (gT a d dep sub lv_8 siz_8 ky_8 va_8 tot_8 lf_4 sl_4 mk mv pk pv) H locs := hw
          refine lv_iinc (v := (x3_4 + 1)) (lv' := [(3, .int (x3_4 + 1)), (0, .ref (a 0)), (1, .int r_1), (2, .int r_2), (4, .int x4_4)]) hx hb dX0_kill_47 hl (k := 3) rfl rfl (by decide) rfl (fun ls hl => ?_)
          refine lv_aload_n hx hb dX0_kill_50 rfl (lv_at hl 1 rfl) ?_
          refine lv_iload_n hx hb dX0_kill_51 rfl (lv_at hl 2 rfl) ?_
          refine g_callVv (rest := []) C (c_X0_seek l D a d _ _ _ _ _ _ _ _ _ _ _ _ _ r_1 h) 59 RX0 (lw_V q104 q106 qs2 q23 q107) (na := 1) (by decide +kernel) rfl (by decide) 0 rfl rfl rfl hw hl.1 rfl (Nat.le_of_ble_eq_true rfl) ⟨Nat.le_refl _, Nat.le_refl _⟩ dX0_kill_52 (fun u_9 H locs h hw => ?_)
          obtain ⟨lf_9, sl_9⟩ := u_9
          have hw : gSt D A s (gT a d dep sub lv_8 siz_8 ky_8 va_8 tot_8 lf_9 sl_9 mk mv pk pv) H locs := hw
          refine lv_iinc (v := (x4_4 + 1)) (lv' := [(4, .int (x4_4 + 1)), (3, .int (x3_4 + 1)), (0, .ref (a 0)), (1, .int r_1), (2, .int r_2)]) hx hb dX0_kill_55 hl (k := 4) rfl rfl (by decide) rfl (fun ls hl => ?_)
          refine lv_goto (tgt := 28) hx hb dX0_kill_58 (by decide) ?_
          exact ih_4 _ _ _ _ _ _ _ _ _ _ _ _ (Nat.lt_of_lt_of_le h.2 (Nat.le_of_lt_succ hk_4)) h.1 hw (lv_sub hl [2, 3, 4, 1, 0] rfl)
  exact loop_4 _ _ _ _ _ _ _ _ _ _ _ _ _ (Nat.lt_succ_self _) h0_4 hw (lv_sub hl [4, 3, 2, 1, 0] rfl)
set_option maxHeartbeats 4000000 in
set_option maxRecDepth 100000 in
theorem c_X0_merge (l : Launch) (D : va_G) (a : Nat → Nat) (d : ClassId) (dep : Int32) (sub : Nat → Int32) (lv : Int32) (siz : Nat → Int32) (ky : Nat → Int32) (va : Nat → Int32) (tot : Int32) (lf : Int32) (sl : Int32) (mk : Nat → Int32) (mv : Nat → Int32) (pk : Nat → Int32) (pv : Nat → Int32) (z1 : Int32) {K : Int32 → Int32 → (Nat → Int32) → (Nat → Int32) → (Nat → Int32) → Int32 → Int32 → Int32 → (Nat → Int32) → (Nat → Int32) → (Nat → Int32) → (Nat → Int32) → Prop} (h : X0_merge_w dep sub lv siz ky va tot lf sl mk mv pk pv z1 K) : CTi l yX0_merge cX0_merge 9 (some .int)  (gRm 5 112) D d [.ref (a 0), .int z1] (gT a d dep sub lv siz ky va tot lf sl mk mv pk pv) (S := Int32 × (Nat → Int32) × (Nat → Int32) × (Nat → Int32) × Int32 × Int32 × Int32 × (Nat → Int32) × (Nat → Int32) × (Nat → Int32) × (Nat → Int32)) (fun (r : Int32) (u : Int32 × (Nat → Int32) × (Nat → Int32) × (Nat → Int32) × Int32 × Int32 × Int32 × (Nat → Int32) × (Nat → Int32) × (Nat → Int32) × (Nat → Int32)) => K r u.1 u.2.1 u.2.2.1 u.2.2.2.1 u.2.2.2.2.1 u.2.2.2.2.2.1 u.2.2.2.2.2.2.1 u.2.2.2.2.2.2.2.1 u.2.2.2.2.2.2.2.2.1 u.2.2.2.2.2.2.2.2.2.1 u.2.2.2.2.2.2.2.2.2.2) (fun u => gT a d dep sub u.1 u.2.1 u.2.2.1 u.2.2.2.1 u.2.2.2.2.1 u.2.2.2.2.2.1 u.2.2.2.2.2.2.1 u.2.2.2.2.2.2.2.1 u.2.2.2.2.2.2.2.2.1 u.2.2.2.2.2.2.2.2.2.1 u.2.2.2.2.2.2.2.2.2.2) := by
  refine gEnter_i (by decide) (Nat.le_of_ble_eq_true rfl) ?_
  intro p e s m args below meth c A Q ls C ret hl hw
  have C : gCx RX0 cX0_merge 9 (some .int) D d A p s m args meth c := C
  have hx := C.1.1
  have hb := C.1.2.1
  have hown := C.1.2.2.2.1
  have hts := C.1.2.2.2.2
  have hl : lv_has ls 9 [(0, .ref (a 0)), (1, .int z1)] := hl
  unfold X0_merge_w at h
  refine lv_aload_n hx hb dX0_merge_0 rfl (lv_at hl 0 rfl) ?_
  refine gt_get_dep C hw dX0_merge_1 ?_
  refine lv_if_ne (tgt := 10) hx hb dX0_merge_4 (by decide) (fun c1 => ?_) (fun c1 => ?_)
  · have h := h.1 c1
    refine lv_iload_n hx hb dX0_merge_10 rfl (lv_at hl 1 rfl) ?_
    refine g_callSi (rest := []) C (c_X0_bad l D d z1 h) 38 (lw_S q78 q79 q23 q80) (na := 1) (by decide +kernel) rfl (by decide) hw hl.1 rfl (Nat.le_of_ble_eq_true rfl) ⟨Nat.le_refl _, Nat.le_refl _⟩ dX0_merge_11 (fun r_2 H locs h hw => ?_)
    refine lv_if_eq (tgt := 19) hx hb dX0_merge_14 (by decide) (fun c3 => ?_) (fun c3 => ?_)
    · have h := h.1 c3
      refine lv_aload_n hx hb dX0_merge_19 rfl (lv_at hl 0 rfl) ?_
      refine lv_aload_n hx hb dX0_merge_20 rfl (lv_at hl 0 rfl) ?_
      refine gt_get_dep C hw dX0_merge_21 ?_
      refine g_callVi (rest := []) C (c_X0_keyOf l D a d _ _ _ _ _ _ _ _ _ _ _ _ _ dep h) 50 RX0 (lw_V q93 q95 qs0 q23 q96) (na := 1) (by decide +kernel) rfl (by decide) 0 rfl rfl rfl hw hl.1 rfl (Nat.le_of_ble_eq_true rfl) ⟨Nat.le_refl _, Nat.le_refl _⟩ dX0_merge_24 (fun r_4 u_4 H locs h hw => ?_)
      refine lv_istore_n (lv' := [(2, .int r_4), (0, .ref (a 0)), (1, .int z1)]) hx hb dX0_merge_27 rfl hl (by decide) rfl (fun ls hl => ?_)
      refine lv_aload_n hx hb dX0_merge_28 rfl (lv_at hl 1 rfl) ?_
      refine lv_aload_n hx hb dX0_merge_29 rfl (lv_at hl 1 rfl) ?_
      refine gt_get_dep C hw dX0_merge_30 ?_
      refine g_callVi (rest := []) C (c_X0_endOf l D a d _ _ _ _ _ _ _ _ _ _ _ _ _ dep h) 92 RX0 (lw_V q145 q147 qs10 q23 q148) (na := 1) (by decide +kernel) rfl (by decide) 0 rfl rfl rfl hw hl.1 rfl (Nat.le_of_ble_eq_true rfl) ⟨Nat.le_refl _, Nat.le_refl _⟩ dX0_merge_33 (fun r_5 u_5 H locs h hw => ?_)
      refine lv_istore_n (lv' := [(3, .int r_5), (2, .int r_4), (0, .ref (a 0)), (1, .int z1)]) hx hb dX0_merge_36 rfl hl (by decide) rfl (fun ls hl => ?_)
      refine lv_iload_n hx hb dX0_merge_37 rfl (lv_at hl 3 rfl) ?_
      refine lv_bipush (v := 51) hx hb dX0_merge_38 (by decide) ?_
      refine lv_iadd hx hb dX0_merge_40 ?_
      refine lv_aload_n hx hb dX0_merge_41 rfl (lv_at hl 2 rfl) ?_
      refine gt_get_sub C hw dX0_merge_42 ?_
      refine lv_aload_n hx hb dX0_merge_45 rfl (lv_at hl 2 rfl) ?_
      refine gt_get_dep C hw dX0_merge_46 ?_
      refine lv_iconst (v := 1) hx hb dX0_merge_49 (by decide) ?_
      refine lv_isub hx hb dX0_merge_50 ?_
      have b6 := h.1
      have h := h.2
      refine gt_ald_sub C hw b6 dX0_merge_51 ?_
      refine lv_isub hx hb dX0_merge_52 ?_
      refine lv_aload_n hx hb dX0_merge_53 rfl (lv_at hl 2 rfl) ?_
      refine gt_get_dep C hw dX0_merge_54 ?_
      refine lv_iconst (v := 1) hx hb dX0_merge_57 (by decide) ?_
      refine lv_isub hx hb dX0_merge_58 ?_
      refine g_callSi (rest := [.int ((z1 + 51) - (sub (dep - 1).toNatClampNeg))]) C (c_X0_unit l D d (dep - 1) h) 45 (lw_S q97 q98 q23 q99) (na := 1) (by decide +kernel) rfl (by decide) hw hl.1 rfl (Nat.le_of_ble_eq_true rfl) ⟨Nat.le_refl _, Nat.le_refl _⟩ dX0_merge_59 (fun r_7 H locs h hw => ?_)
      refine lv_imul hx hb dX0_merge_62 ?_
      refine lv_istore (lv' := [(4, .int (((z1 + 51) - (sub (dep - 1).toNatClampNeg)) * r_7)), (3, .int r_5), (2, .int r_4), (0, .ref (a 0)), (1, .int z1)]) hx hb dX0_merge_63 hl (by decide) rfl (fun ls hl => ?_)
      refine lv_iconst (v := 0) hx hb dX0_merge_65 (by decide) ?_
      refine lv_istore (lv' := [(5, .int 0), (4, .int (((z1 + 51) - (sub (dep - 1).toNatClampNeg)) * r_7)), (3, .int r_5), (2, .int r_4), (0, .ref (a 0)), (1, .int z1)]) hx hb dX0_merge_66 hl (by decide) rfl (fun ls hl => ?_)
      refine lv_aload_n hx hb dX0_merge_68 rfl (lv_at hl 4 rfl) ?_
      refine lv_iload_n hx hb dX0_merge_69 rfl (lv_at hl 3 rfl) ?_
      refine g_callVv (rest := []) C (c_X0_seek l D a d _ _ _ _ _ _ _ _ _ _ _ _ _ r_4 h) 59 RX0 (lw_V q104 q106 qs2 q23 q107) (na := 1) (by decide +kernel) rfl (by decide) 0 rfl rfl rfl hw hl.1 rfl (Nat.le_of_ble_eq_true rfl) ⟨Nat.le_refl _, Nat.le_refl _⟩ dX0_merge_70 (fun u_8 H locs h hw => ?_)
      obtain ⟨lf_8, sl_8⟩ := u_8
      have hw : gSt D A s (gT a d dep sub lv siz ky va tot lf_8 sl_8 mk mv pk pv) H locs := hw
      obtain ⟨J9, hJ_9, h⟩ := h
      have join_9 : ∀ (x5_9 : Int32) (lf_9 : Int32) (sl_9 : Int32) (mk_9 : Nat → Int32) (mv_9 : Nat → Int32) (H : Heap) (locs : List Loc) (ls : Array Slot), J9 x5_9 lf_9 sl_9 mk_9 mv_9 → gSt D A s (gT a d dep sub lv siz ky va tot lf_9 sl_9 mk_9 mv_9 pk pv) H locs → lv_has ls 9 [(0, .ref (a 0)), (4, .int (((z1 + 51) - (sub (dep - 1).toNatClampNeg)) * r_7)), (5, .int x5_9)] → W p l e (gRm 5 112) s m args below meth c H locs 0 0 Q (F0 m 157 ls []) := by
        intro x5_9 lf_9 sl_9 mk_9 mv_9 H locs ls hi hw hl
        have h := hJ_9 x5_9 lf_9 sl_9 mk_9 mv_9 hi
        refine lv_iconst (v := 0) hx hb dX0_merge_157 (by decide) ?_
        refine lv_istore (lv' := [(6, .int 0), (0, .ref (a 0)), (4, .int (((z1 + 51) - (sub (dep - 1).toNatClampNeg)) * r_7)), (5, .int x5_9)]) hx hb dX0_merge_158 hl (by decide) rfl (fun ls hl => ?_)
        refine lv_iconst (v := 0) hx hb dX0_merge_160 (by decide) ?_
        refine lv_istore (lv' := [(7, .int 0), (6, .int 0), (0, .ref (a 0)), (4, .int (((z1 + 51) - (sub (dep - 1).toNatClampNeg)) * r_7)), (5, .int x5_9)]) hx hb dX0_merge_161 hl (by decide) rfl (fun ls hl => ?_)
        obtain ⟨I10, μ10, h0_10, hI_10⟩ := h
        have loop_10 : ∀ (k : Nat) (x6_10 : Int32) (x7_10 : Int32) (lf_10 : Int32) (sl_10 : Int32) (H : Heap) (locs : List Loc) (ls : Array Slot), μ10 x6_10 x7_10 lf_10 sl_10 < k → I10 x6_10 x7_10 lf_10 sl_10 → gSt D A s (gT a d dep sub lv siz ky va tot lf_10 sl_10 mk_9 mv_9 pk pv) H locs → lv_has ls 9 [(0, .ref (a 0)), (4, .int (((z1 + 51) - (sub (dep - 1).toNatClampNeg)) * r_7)), (5, .int x5_9), (6, .int x6_10), (7, .int x7_10)] → W p l e (gRm 5 112) s m args below meth c H locs 0 0 Q (F0 m 163 ls []) := by
          intro k
          induction k with
          | zero => intro x6_10 x7_10 lf_10 sl_10 H locs ls hk; exact absurd hk (Nat.not_lt_zero _)
          | succ k ih_10 =>
            intro x6_10 x7_10 lf_10 sl_10 H locs ls hk_10 hi hw hl
            have h := hI_10 x6_10 x7_10 lf_10 sl_10 hi
            refine lv_iload hx hb dX0_merge_163 (lv_at hl 4 rfl) ?_
            refine lv_iload hx hb dX0_merge_165 (lv_at hl 2 rfl) ?_
            refine lv_icmp_ge (tgt := 200) hx hb dX0_merge_167 (by decide) (fun c11 => ?_) (fun c11 => ?_)
            · have h := h.1 c11
              refine lv_aload_n hx hb dX0_merge_200 rfl (lv_at hl 0 rfl) ?_
              refine gt_get_tot C hw dX0_merge_201 ?_
              refine lv_iload hx hb dX0_merge_204 (lv_at hl 3 rfl) ?_
              refine lv_iadd hx hb dX0_merge_206 ?_
              refine lv_bipush (v := 60) hx hb dX0_merge_207 (by decide) ?_
              refine lv_icmp_le (tgt := 215) hx hb dX0_merge_209 (by decide) (fun c12 => ?_) (fun c12 => ?_)
              · have h := h.1 c12
                refine lv_iconst (v := 0) hx hb dX0_merge_215 (by decide) ?_
                refine lv_istore (lv' := [(7, .int 0), (0, .ref (a 0)), (4, .int (((z1 + 51) - (sub (dep - 1).toNatClampNeg)) * r_7)), (5, .int x5_9), (6, .int x6_10)]) hx hb dX0_merge_216 hl (by decide) rfl (fun ls hl => ?_)
                obtain ⟨I13, μ13, h0_13, hI_13⟩ := h
                have loop_13 : ∀ (k : Nat) (x7_13 : Int32) (lv_13 : Int32) (siz_13 : Nat → Int32) (ky_13 : Nat → Int32) (va_13 : Nat → Int32) (tot_13 : Int32) (lf_13 : Int32) (sl_13 : Int32) (pk_13 : Nat → Int32) (pv_13 : Nat → Int32) (H : Heap) (locs : List Loc) (ls : Array Slot), μ13 x7_13 lv_13 siz_13 ky_13 va_13 tot_13 lf_13 sl_13 pk_13 pv_13 < k → I13 x7_13 lv_13 siz_13 ky_13 va_13 tot_13 lf_13 sl_13 pk_13 pv_13 → gSt D A s (gT a d dep sub lv_13 siz_13 ky_13 va_13 tot_13 lf_13 sl_13 mk_9 mv_9 pk_13 pv_13) H locs → lv_has ls 9 [(0, .ref (a 0)), (4, .int (((z1 + 51) - (sub (dep - 1).toNatClampNeg)) * r_7)), (5, .int x5_9), (7, .int x7_13)] → W p l e (gRm 5 112) s m args below meth c H locs 0 0 Q (F0 m 218 ls []) := by
                  intro k
                  induction k with
                  | zero => intro x7_13 lv_13 siz_13 ky_13 va_13 tot_13 lf_13 sl_13 pk_13 pv_13 H locs ls hk; exact absurd hk (Nat.not_lt_zero _)
                  | succ k ih_13 =>
                    intro x7_13 lv_13 siz_13 ky_13 va_13 tot_13 lf_13 sl_13 pk_13 pv_13 H locs ls hk_13 hi hw hl
                    have h := hI_13 x7_13 lv_13 siz_13 ky_13 va_13 tot_13 lf_13 sl_13 pk_13 pv_13 hi
                    refine lv_iload hx hb dX0_merge_218 (lv_at hl 3 rfl) ?_
                    refine lv_iload hx hb dX0_merge_220 (lv_at hl 2 rfl) ?_
                    refine lv_icmp_ge (tgt := 252) hx hb dX0_merge_222 (by decide) (fun c14 => ?_) (fun c14 => ?_)
                    · have h := h.1 c14
                      refine lv_iload hx hb dX0_merge_252 (lv_at hl 2 rfl) ?_
                      exact ret x5_9 (lv_13, siz_13, ky_13, va_13, tot_13, lf_13, sl_13, mk_9, mv_9, pk_13, pv_13) _ _ _ _ h rfl hw dX0_merge_254
                    · have h := h.2 c14
                      refine lv_aload_n hx hb dX0_merge_225 rfl (lv_at hl 0 rfl) ?_
                      refine lv_aload_n hx hb dX0_merge_226 rfl (lv_at hl 0 rfl) ?_
                      refine gt_get_mk C hw dX0_merge_227 ?_
                      refine lv_iload hx hb dX0_merge_230 (lv_at hl 3 rfl) ?_
                      have b15 := h.1
                      have h := h.2
                      refine gt_ald_mk C hw b15 dX0_merge_232 ?_
                      refine lv_iload hx hb dX0_merge_233 (lv_at hl 1 rfl) ?_
                      refine lv_iadd hx hb dX0_merge_235 ?_
                      refine lv_aload_n hx hb dX0_merge_236 rfl (lv_at hl 0 rfl) ?_
                      refine gt_get_mv C hw dX0_merge_237 ?_
                      refine lv_iload hx hb dX0_merge_240 (lv_at hl 3 rfl) ?_
                      have b16 := h.1
                      have h := h.2
                      refine gt_ald_mv C hw b16 dX0_merge_242 ?_
                      refine g_callVv (rest := []) C (c_X0_put l D a d _ _ _ _ _ _ _ _ _ _ _ _ _ ((mk_9 x7_13.toNatClampNeg) + (((z1 + 51) - (sub (dep - 1).toNatClampNeg)) * r_7)) (mv_9 x7_13.toNatClampNeg) h) 89 RX0 (lw_V q113 q115 qs4 q23 q116) (na := 2) (by decide +kernel) rfl (by decide) 0 rfl rfl rfl hw hl.1 rfl (Nat.le_of_ble_eq_true rfl) ⟨Nat.le_refl _, Nat.le_refl _⟩ dX0_merge_243 (fun u_17 H locs h hw => ?_)
                      obtain ⟨lv_17, siz_17, ky_17, va_17, tot_17, lf_17, sl_17, pk_17, pv_17⟩ := u_17
                      have hw : gSt D A s (gT a d dep sub lv_17 siz_17 ky_17 va_17 tot_17 lf_17 sl_17 mk_9 mv_9 pk_17 pv_17) H locs := hw
                      refine lv_iinc (v := (x7_13 + 1)) (lv' := [(7, .int (x7_13 + 1)), (0, .ref (a 0)), (4, .int (((z1 + 51) - (sub (dep - 1).toNatClampNeg)) * r_7)), (5, .int x5_9)]) hx hb dX0_merge_246 hl (k := 3) rfl rfl (by decide) rfl (fun ls hl => ?_)
                      refine lv_goto (tgt := 218) hx hb dX0_merge_249 (by decide) ?_
                      exact ih_13 _ _ _ _ _ _ _ _ _ _ _ _ _ (Nat.lt_of_lt_of_le h.2 (Nat.le_of_lt_succ hk_13)) h.1 hw (lv_sub hl [1, 2, 3, 0] rfl)
                exact loop_13 _ _ _ _ _ _ _ _ _ _ _ _ _ _ (Nat.lt_succ_self _) h0_13 hw (lv_sub hl [1, 2, 3, 0] rfl)
              · have h := h.2 c12
                refine lv_bipush (v := (-2)) hx hb dX0_merge_212 (by decide) ?_
                exact ret (-2) (lv, siz, ky, va, tot, lf_10, sl_10, mk_9, mv_9, pk, pv) _ _ _ _ h rfl hw dX0_merge_214
            · have h := h.2 c11
              refine lv_aload_n hx hb dX0_merge_170 rfl (lv_at hl 0 rfl) ?_
              refine lv_aload_n hx hb dX0_merge_171 rfl (lv_at hl 0 rfl) ?_
              refine gt_get_mk C hw dX0_merge_172 ?_
              refine lv_iload hx hb dX0_merge_175 (lv_at hl 4 rfl) ?_
              have b18 := h.1
              have h := h.2
              refine gt_ald_mk C hw b18 dX0_merge_177 ?_
              refine lv_iload hx hb dX0_merge_178 (lv_at hl 1 rfl) ?_
              refine lv_iadd hx hb dX0_merge_180 ?_
              refine g_callVi (rest := []) C (c_X0_present l D a d _ _ _ _ _ _ _ _ _ _ _ _ _ ((mk_9 x7_10.toNatClampNeg) + (((z1 + 51) - (sub (dep - 1).toNatClampNeg)) * r_7)) h) 83 RX0 (lw_V q100 q102 qs1 q23 q103) (na := 1) (by decide +kernel) rfl (by decide) 0 rfl rfl rfl hw hl.1 rfl (Nat.le_of_ble_eq_true rfl) ⟨Nat.le_refl _, Nat.le_refl _⟩ dX0_merge_181 (fun r_19 u_19 H locs h hw => ?_)
              obtain ⟨lf_19, sl_19⟩ := u_19
              have hw : gSt D A s (gT a d dep sub lv siz ky va tot lf_19 sl_19 mk_9 mv_9 pk pv) H locs := hw
              refine lv_istore (lv' := [(8, .int r_19), (0, .ref (a 0)), (4, .int (((z1 + 51) - (sub (dep - 1).toNatClampNeg)) * r_7)), (5, .int x5_9), (6, .int x6_10), (7, .int x7_10)]) hx hb dX0_merge_184 hl (by decide) rfl (fun ls hl => ?_)
              refine lv_iload hx hb dX0_merge_186 (lv_at hl 0 rfl) ?_
              refine lv_if_ne (tgt := 194) hx hb dX0_merge_188 (by decide) (fun c20 => ?_) (fun c20 => ?_)
              · have h := h.1 c20
                refine lv_iinc (v := (x7_10 + 1)) (lv' := [(7, .int (x7_10 + 1)), (8, .int r_19), (0, .ref (a 0)), (4, .int (((z1 + 51) - (sub (dep - 1).toNatClampNeg)) * r_7)), (5, .int x5_9), (6, .int x6_10)]) hx hb dX0_merge_194 hl (k := 5) rfl rfl (by decide) rfl (fun ls hl => ?_)
                refine lv_goto (tgt := 163) hx hb dX0_merge_197 (by decide) ?_
                exact ih_10 _ _ _ _ _ _ _ (Nat.lt_of_lt_of_le h.2 (Nat.le_of_lt_succ hk_10)) h.1 hw (lv_sub hl [2, 3, 4, 5, 0] rfl)
              · have h := h.2 c20
                refine lv_iinc (v := (x6_10 + 1)) (lv' := [(6, .int (x6_10 + 1)), (8, .int r_19), (0, .ref (a 0)), (4, .int (((z1 + 51) - (sub (dep - 1).toNatClampNeg)) * r_7)), (5, .int x5_9), (7, .int x7_10)]) hx hb dX0_merge_191 hl (k := 4) rfl rfl (by decide) rfl (fun ls hl => ?_)
                refine lv_iinc (v := (x7_10 + 1)) (lv' := [(7, .int (x7_10 + 1)), (6, .int (x6_10 + 1)), (8, .int r_19), (0, .ref (a 0)), (4, .int (((z1 + 51) - (sub (dep - 1).toNatClampNeg)) * r_7)), (5, .int x5_9)]) hx hb dX0_merge_194 hl (k := 5) rfl rfl (by decide) rfl (fun ls hl => ?_)
                refine lv_goto (tgt := 163) hx hb dX0_merge_197 (by decide) ?_
                exact ih_10 _ _ _ _ _ _ _ (Nat.lt_of_lt_of_le h.2 (Nat.le_of_lt_succ hk_10)) h.1 hw (lv_sub hl [3, 4, 5, 1, 0] rfl)
        exact loop_10 _ _ _ _ _ _ _ _ (Nat.lt_succ_self _) h0_10 hw (lv_sub hl [2, 3, 4, 1, 0] rfl)
      obtain ⟨I21, μ21, h0_21, hI_21⟩ := h
      have loop_21 : ∀ (k : Nat) (x5_21 : Int32) (lf_21 : Int32) (sl_21 : Int32) (mk_21 : Nat → Int32) (mv_21 : Nat → Int32) (H : Heap) (locs : List Loc) (ls : Array Slot), μ21 x5_21 lf_21 sl_21 mk_21 mv_21 < k → I21 x5_21 lf_21 sl_21 mk_21 mv_21 → gSt D A s (gT a d dep sub lv siz ky va tot lf_21 sl_21 mk_21 mv_21 pk pv) H locs → lv_has ls 9 [(0, .ref (a 0)), (3, .int r_5), (4, .int (((z1 + 51) - (sub (dep - 1).toNatClampNeg)) * r_7)), (5, .int x5_21)] → W p l e (gRm 5 112) s m args below meth c H locs 0 0 Q (F0 m 73 ls []) := by
        intro k
        induction k with
        | zero => intro x5_21 lf_21 sl_21 mk_21 mv_21 H locs ls hk; exact absurd hk (Nat.not_lt_zero _)
        | succ k ih_21 =>
          intro x5_21 lf_21 sl_21 mk_21 mv_21 H locs ls hk_21 hi hw hl
          have h := hI_21 x5_21 lf_21 sl_21 mk_21 mv_21 hi
          refine lv_iload hx hb dX0_merge_73 (lv_at hl 3 rfl) ?_
          refine lv_bipush (v := 60) hx hb dX0_merge_75 (by decide) ?_
          refine lv_icmp_ge (tgt := 157) hx hb dX0_merge_77 (by decide) (fun c22 => ?_) (fun c22 => ?_)
          · have h := h.1 c22
            exact join_9 _ _ _ _ _ _ _ _ h hw (lv_sub hl [0, 2, 3] rfl)
          · have h := h.2 c22
            refine lv_aload_n hx hb dX0_merge_80 rfl (lv_at hl 0 rfl) ?_
            refine g_callVi (rest := []) C (c_X0_found l D a d _ _ _ _ _ _ _ _ _ _ _ _ _  h) 63 RX0 (lw_V q108 q110 qs3 q23 q111) (na := 0) (by decide +kernel) rfl (by decide) 0 rfl rfl rfl hw hl.1 rfl (Nat.le_of_ble_eq_true rfl) ⟨Nat.le_refl _, Nat.le_refl _⟩ dX0_merge_81 (fun r_23 u_23 H locs h hw => ?_)
            refine lv_iload_n hx hb dX0_merge_84 rfl (lv_at hl 1 rfl) ?_
            refine lv_icmp_ge (tgt := 157) hx hb dX0_merge_85 (by decide) (fun c24 => ?_) (fun c24 => ?_)
            · have h := h.1 c24
              exact join_9 _ _ _ _ _ _ _ _ h hw (lv_sub hl [0, 2, 3] rfl)
            · have h := h.2 c24
              refine lv_aload_n hx hb dX0_merge_88 rfl (lv_at hl 0 rfl) ?_
              refine gt_get_mk C hw dX0_merge_89 ?_
              refine lv_iload hx hb dX0_merge_92 (lv_at hl 3 rfl) ?_
              refine lv_aload_n hx hb dX0_merge_94 rfl (lv_at hl 0 rfl) ?_
              refine gt_get_ky C hw dX0_merge_95 ?_
              refine lv_aload_n hx hb dX0_merge_98 rfl (lv_at hl 0 rfl) ?_
              refine gt_get_lf C hw dX0_merge_99 ?_
              refine lv_bipush (v := 8) hx hb dX0_merge_102 (by decide) ?_
              refine lv_imul hx hb dX0_merge_104 ?_
              refine lv_aload_n hx hb dX0_merge_105 rfl (lv_at hl 0 rfl) ?_
              refine gt_get_sl C hw dX0_merge_106 ?_
              refine lv_iadd hx hb dX0_merge_109 ?_
              have b25 := h.1
              have h := h.2
              refine gt_ald_ky C hw b25 dX0_merge_110 ?_
              have b26 := h.1
              have h := h.2
              refine gt_ast_mk C hw b26 dX0_merge_111 (fun H locs hw => ?_)
              refine lv_aload_n hx hb dX0_merge_112 rfl (lv_at hl 0 rfl) ?_
              refine gt_get_mv C hw dX0_merge_113 ?_
              refine lv_iload hx hb dX0_merge_116 (lv_at hl 3 rfl) ?_
              refine lv_aload_n hx hb dX0_merge_118 rfl (lv_at hl 0 rfl) ?_
              refine gt_get_va C hw dX0_merge_119 ?_
              refine lv_aload_n hx hb dX0_merge_122 rfl (lv_at hl 0 rfl) ?_
              refine gt_get_lf C hw dX0_merge_123 ?_
              refine lv_bipush (v := 8) hx hb dX0_merge_126 (by decide) ?_
              refine lv_imul hx hb dX0_merge_128 ?_
              refine lv_aload_n hx hb dX0_merge_129 rfl (lv_at hl 0 rfl) ?_
              refine gt_get_sl C hw dX0_merge_130 ?_
              refine lv_iadd hx hb dX0_merge_133 ?_
              have b27 := h.1
              have h := h.2
              refine gt_ald_va C hw b27 dX0_merge_134 ?_
              have b28 := h.1
              have h := h.2
              refine gt_ast_mv C hw b28 dX0_merge_135 (fun H locs hw => ?_)
              refine lv_iinc (v := (x5_21 + 1)) (lv' := [(5, .int (x5_21 + 1)), (0, .ref (a 0)), (3, .int r_5), (4, .int (((z1 + 51) - (sub (dep - 1).toNatClampNeg)) * r_7))]) hx hb dX0_merge_136 hl (k := 3) rfl rfl (by decide) rfl (fun ls hl => ?_)
              refine lv_aload_n hx hb dX0_merge_139 rfl (lv_at hl 1 rfl) ?_
              refine lv_aload_n hx hb dX0_merge_140 rfl (lv_at hl 1 rfl) ?_
              refine gt_get_mk C hw dX0_merge_141 ?_
              refine lv_iload hx hb dX0_merge_144 (lv_at hl 0 rfl) ?_
              refine lv_iconst (v := 1) hx hb dX0_merge_146 (by decide) ?_
              refine lv_isub hx hb dX0_merge_147 ?_
              have b29 := h.1
              have h := h.2
              refine gt_ald_mk C hw b29 dX0_merge_148 ?_
              refine lv_iconst (v := 1) hx hb dX0_merge_149 (by decide) ?_
              refine lv_iadd hx hb dX0_merge_150 ?_
              refine g_callVv (rest := []) C (c_X0_seek l D a d _ _ _ _ _ _ _ _ _ _ _ _ _ (((upd mk_21 x5_21.toNatClampNeg (ky ((lf_21 * 8) + sl_21).toNatClampNeg)) ((x5_21 + 1) - 1).toNatClampNeg) + 1) h) 59 RX0 (lw_V q104 q106 qs2 q23 q107) (na := 1) (by decide +kernel) rfl (by decide) 0 rfl rfl rfl hw hl.1 rfl (Nat.le_of_ble_eq_true rfl) ⟨Nat.le_refl _, Nat.le_refl _⟩ dX0_merge_151 (fun u_30 H locs h hw => ?_)
              obtain ⟨lf_30, sl_30⟩ := u_30
              have hw : gSt D A s (gT a d dep sub lv siz ky va tot lf_30 sl_30 (upd mk_21 x5_21.toNatClampNeg (ky ((lf_21 * 8) + sl_21).toNatClampNeg)) (upd mv_21 x5_21.toNatClampNeg (va ((lf_21 * 8) + sl_21).toNatClampNeg)) pk pv) H locs := hw
              refine lv_goto (tgt := 73) hx hb dX0_merge_154 (by decide) ?_
              exact ih_21 _ _ _ _ _ _ _ _ (Nat.lt_of_lt_of_le h.2 (Nat.le_of_lt_succ hk_21)) h.1 hw (lv_sub hl [1, 2, 3, 0] rfl)
      exact loop_21 _ _ _ _ _ _ _ _ _ (Nat.lt_succ_self _) h0_21 hw (lv_sub hl [4, 2, 1, 0] rfl)
    · have h := h.2 c3
      refine lv_iconst (v := (-1)) hx hb dX0_merge_17 (by decide) ?_
      exact ret (-1) (lv, siz, ky, va, tot, lf, sl, mk, mv, pk, pv) _ _ _ _ h rfl hw dX0_merge_18
  · have h := h.2 c1
    refine lv_bipush (v := (-3)) hx hb dX0_merge_7 (by decide) ?_
    exact ret (-3) (lv, siz, ky, va, tot, lf, sl, mk, mv, pk, pv) _ _ _ _ h rfl hw dX0_merge_9
end
section
set_option maxHeartbeats 4000000 in
set_option maxRecDepth 100000 in
theorem c_X0_keyBehind (l : Launch) (D : va_G) (a : Nat → Nat) (d : ClassId) (dep : Int32) (sub : Nat → Int32) (lv : Int32) (siz : Nat → Int32) (ky : Nat → Int32) (va : Nat → Int32) (tot : Int32) (lf : Int32) (sl : Int32) (mk : Nat → Int32) (mv : Nat → Int32) (pk : Nat → Int32) (pv : Nat → Int32) {K : Int32 → Int32 → Int32 → Prop} (h : X0_keyBehind_w dep sub lv siz ky K) : CTi l yX0_keyBehind cX0_keyBehind 2 (some .int)  (gRm 2 43) D d [.ref (a 0)] (gT a d dep sub lv siz ky va tot lf sl mk mv pk pv) (S := Int32 × Int32) (fun (r : Int32) (u : Int32 × Int32) => K r u.1 u.2) (fun u => gT a d dep sub lv siz ky va tot u.1 u.2 mk mv pk pv) := by
  refine gEnter_i (by decide) (Nat.le_of_ble_eq_true rfl) ?_
  intro p e s m args below meth c A Q ls C ret hl hw
  have C : gCx RX0 cX0_keyBehind 2 (some .int) D d A p s m args meth c := C
  have hx := C.1.1
  have hb := C.1.2.1
  have hown := C.1.2.2.2.1
  have hts := C.1.2.2.2.2
  have hl : lv_has ls 2 [(0, .ref (a 0))] := hl
  unfold X0_keyBehind_w at h
  refine lv_aload_n hx hb dX0_keyBehind_0 rfl (lv_at hl 0 rfl) ?_
  refine lv_aload_n hx hb dX0_keyBehind_1 rfl (lv_at hl 0 rfl) ?_
  refine gt_get_dep C hw dX0_keyBehind_2 ?_
  refine g_callVi (rest := []) C (c_X0_keyOf l D a d _ _ _ _ _ _ _ _ _ _ _ _ _ dep h) 50 RX0 (lw_V q93 q95 qs0 q23 q96) (na := 1) (by decide +kernel) rfl (by decide) 0 rfl rfl rfl hw hl.1 rfl (Nat.le_of_ble_eq_true rfl) ⟨Nat.le_refl _, Nat.le_refl _⟩ dX0_keyBehind_5 (fun r_1 u_1 H locs h hw => ?_)
  refine lv_istore_n (lv' := [(1, .int r_1), (0, .ref (a 0))]) hx hb dX0_keyBehind_8 rfl hl (by decide) rfl (fun ls hl => ?_)
  refine lv_aload_n hx hb dX0_keyBehind_9 rfl (lv_at hl 1 rfl) ?_
  refine lv_aload_n hx hb dX0_keyBehind_10 rfl (lv_at hl 1 rfl) ?_
  refine gt_get_dep C hw dX0_keyBehind_11 ?_
  refine lv_if_ne (tgt := 21) hx hb dX0_keyBehind_14 (by decide) (fun c2 => ?_) (fun c2 => ?_)
  · have h := h.1 c2
    refine lv_iload_n hx hb dX0_keyBehind_21 rfl (lv_at hl 0 rfl) ?_
    refine lv_iconst (v := 1) hx hb dX0_keyBehind_22 (by decide) ?_
    refine lv_iadd hx hb dX0_keyBehind_23 ?_
    refine g_callVv (rest := []) C (c_X0_seek l D a d _ _ _ _ _ _ _ _ _ _ _ _ _ (r_1 + 1) h) 59 RX0 (lw_V q104 q106 qs2 q23 q107) (na := 1) (by decide +kernel) rfl (by decide) 0 rfl rfl rfl hw hl.1 rfl (Nat.le_of_ble_eq_true rfl) ⟨Nat.le_refl _, Nat.le_refl _⟩ dX0_keyBehind_24 (fun u_3 H locs h hw => ?_)
    obtain ⟨lf_3, sl_3⟩ := u_3
    have hw : gSt D A s (gT a d dep sub lv siz ky va tot lf_3 sl_3 mk mv pk pv) H locs := hw
    refine lv_aload_n hx hb dX0_keyBehind_27 rfl (lv_at hl 1 rfl) ?_
    refine g_callVi (rest := []) C (c_X0_found l D a d _ _ _ _ _ _ _ _ _ _ _ _ _  h) 63 RX0 (lw_V q108 q110 qs3 q23 q111) (na := 0) (by decide +kernel) rfl (by decide) 0 rfl rfl rfl hw hl.1 rfl (Nat.le_of_ble_eq_true rfl) ⟨Nat.le_refl _, Nat.le_refl _⟩ dX0_keyBehind_28 (fun r_4 u_4 H locs h hw => ?_)
    exact ret r_4 (lf_3, sl_3) _ _ _ _ h rfl hw dX0_keyBehind_31
  · have h := h.2 c2
    refine lv_iconst (v := 0) hx hb dX0_keyBehind_17 (by decide) ?_
    refine lv_goto (tgt := 24) hx hb dX0_keyBehind_18 (by decide) ?_
    refine g_callVv (rest := []) C (c_X0_seek l D a d _ _ _ _ _ _ _ _ _ _ _ _ _ 0 h) 59 RX0 (lw_V q104 q106 qs2 q23 q107) (na := 1) (by decide +kernel) rfl (by decide) 0 rfl rfl rfl hw hl.1 rfl (Nat.le_of_ble_eq_true rfl) ⟨Nat.le_refl _, Nat.le_refl _⟩ dX0_keyBehind_24 (fun u_5 H locs h hw => ?_)
    obtain ⟨lf_5, sl_5⟩ := u_5
    have hw : gSt D A s (gT a d dep sub lv siz ky va tot lf_5 sl_5 mk mv pk pv) H locs := hw
    refine lv_aload_n hx hb dX0_keyBehind_27 rfl (lv_at hl 1 rfl) ?_
    refine g_callVi (rest := []) C (c_X0_found l D a d _ _ _ _ _ _ _ _ _ _ _ _ _  h) 63 RX0 (lw_V q108 q110 qs3 q23 q111) (na := 0) (by decide +kernel) rfl (by decide) 0 rfl rfl rfl hw hl.1 rfl (Nat.le_of_ble_eq_true rfl) ⟨Nat.le_refl _, Nat.le_refl _⟩ dX0_keyBehind_28 (fun r_6 u_6 H locs h hw => ?_)
    exact ret r_6 (lf_5, sl_5) _ _ _ _ h rfl hw dX0_keyBehind_31
set_option maxHeartbeats 4000000 in
set_option maxRecDepth 100000 in
theorem c_X0_data (l : Launch) (D : va_G) (a : Nat → Nat) (d : ClassId) (dep : Int32) (sub : Nat → Int32) (lv : Int32) (siz : Nat → Int32) (ky : Nat → Int32) (va : Nat → Int32) (tot : Int32) (lf : Int32) (sl : Int32) (mk : Nat → Int32) (mv : Nat → Int32) (pk : Nat → Int32) (pv : Nat → Int32) {K : Int32 → Int32 → Int32 → Prop} (h : X0_data_w dep sub lv siz ky K) : CTi l yX0_data cX0_data 5 (some .int)  (gRm 3 64) D d [.ref (a 0)] (gT a d dep sub lv siz ky va tot lf sl mk mv pk pv) (S := Int32 × Int32) (fun (r : Int32) (u : Int32 × Int32) => K r u.1 u.2) (fun u => gT a d dep sub lv siz ky va tot u.1 u.2 mk mv pk pv) := by
  refine gEnter_i (by decide) (Nat.le_of_ble_eq_true rfl) ?_
  intro p e s m args below meth c A Q ls C ret hl hw
  have C : gCx RX0 cX0_data 5 (some .int) D d A p s m args meth c := C
  have hx := C.1.1
  have hb := C.1.2.1
  have hown := C.1.2.2.2.1
  have hts := C.1.2.2.2.2
  have hl : lv_has ls 5 [(0, .ref (a 0))] := hl
  unfold X0_data_w at h
  refine lv_aload_n hx hb dX0_data_0 rfl (lv_at hl 0 rfl) ?_
  refine g_callVi (rest := []) C (c_X0_keyBehind l D a d _ _ _ _ _ _ _ _ _ _ _ _ _  h) 98 RX0 (lw_V q161 q163 qs12 q23 q164) (na := 0) (by decide +kernel) rfl (by decide) 0 rfl rfl rfl hw hl.1 rfl (Nat.le_of_ble_eq_true rfl) ⟨Nat.le_refl _, Nat.le_refl _⟩ dX0_data_1 (fun r_1 u_1 H locs h hw => ?_)
  obtain ⟨lf_1, sl_1⟩ := u_1
  have hw : gSt D A s (gT a d dep sub lv siz ky va tot lf_1 sl_1 mk mv pk pv) H locs := hw
  refine lv_istore_n (lv' := [(1, .int r_1), (0, .ref (a 0))]) hx hb dX0_data_4 rfl hl (by decide) rfl (fun ls hl => ?_)
  obtain ⟨J2, hJ_2, h⟩ := h
  have join_2 : ∀ (x2_2 : Int32) (H : Heap) (locs : List Loc) (ls : Array Slot), J2 x2_2 → gSt D A s (gT a d dep sub lv siz ky va tot lf_1 sl_1 mk mv pk pv) H locs → lv_has ls 5 [(0, .ref (a 0)), (2, .int x2_2)] → W p l e (gRm 3 64) s m args below meth c H locs 0 0 Q (F0 m 24 ls []) := by
    intro x2_2 H locs ls hi hw hl
    have h := hJ_2 x2_2 hi
    refine lv_aload_n hx hb dX0_data_24 rfl (lv_at hl 0 rfl) ?_
    refine gt_get_dep C hw dX0_data_25 ?_
    refine lv_if_ne (tgt := 33) hx hb dX0_data_28 (by decide) (fun c3 => ?_) (fun c3 => ?_)
    · have h := h.1 c3
      refine lv_aload_n hx hb dX0_data_33 rfl (lv_at hl 0 rfl) ?_
      refine lv_aload_n hx hb dX0_data_34 rfl (lv_at hl 0 rfl) ?_
      refine gt_get_dep C hw dX0_data_35 ?_
      refine g_callVi (rest := []) C (c_X0_keyOf l D a d _ _ _ _ _ _ _ _ _ _ _ _ _ dep h) 50 RX0 (lw_V q93 q95 qs0 q23 q96) (na := 1) (by decide +kernel) rfl (by decide) 0 rfl rfl rfl hw hl.1 rfl (Nat.le_of_ble_eq_true rfl) ⟨Nat.le_refl _, Nat.le_refl _⟩ dX0_data_38 (fun r_4 u_4 H locs h hw => ?_)
      refine lv_istore_n (lv' := [(3, .int r_4), (0, .ref (a 0)), (2, .int x2_2)]) hx hb dX0_data_41 rfl hl (by decide) rfl (fun ls hl => ?_)
      refine lv_aload_n hx hb dX0_data_42 rfl (lv_at hl 1 rfl) ?_
      refine lv_iload_n hx hb dX0_data_43 rfl (lv_at hl 0 rfl) ?_
      refine g_callVi (rest := []) C (c_X0_present l D a d _ _ _ _ _ _ _ _ _ _ _ _ _ r_4 h) 83 RX0 (lw_V q100 q102 qs1 q23 q103) (na := 1) (by decide +kernel) rfl (by decide) 0 rfl rfl rfl hw hl.1 rfl (Nat.le_of_ble_eq_true rfl) ⟨Nat.le_refl _, Nat.le_refl _⟩ dX0_data_44 (fun r_5 u_5 H locs h hw => ?_)
      obtain ⟨lf_5, sl_5⟩ := u_5
      have hw : gSt D A s (gT a d dep sub lv siz ky va tot lf_5 sl_5 mk mv pk pv) H locs := hw
      refine lv_istore (lv' := [(4, .int r_5), (3, .int r_4), (0, .ref (a 0)), (2, .int x2_2)]) hx hb dX0_data_47 hl (by decide) rfl (fun ls hl => ?_)
      refine lv_iload hx hb dX0_data_49 (lv_at hl 0 rfl) ?_
      refine lv_if_eq (tgt := 60) hx hb dX0_data_51 (by decide) (fun c6 => ?_) (fun c6 => ?_)
      · have h := h.1 c6
        refine lv_iload_n hx hb dX0_data_60 rfl (lv_at hl 3 rfl) ?_
        exact ret x2_2 (lf_5, sl_5) _ _ _ _ h rfl hw dX0_data_61
      · have h := h.2 c6
        refine lv_iload_n hx hb dX0_data_54 rfl (lv_at hl 3 rfl) ?_
        refine lv_iconst (v := 1) hx hb dX0_data_55 (by decide) ?_
        refine lv_iadd hx hb dX0_data_56 ?_
        refine lv_goto (tgt := 61) hx hb dX0_data_57 (by decide) ?_
        exact ret (x2_2 + 1) (lf_5, sl_5) _ _ _ _ h rfl hw dX0_data_61
    · have h := h.2 c3
      refine lv_iload_n hx hb dX0_data_31 rfl (lv_at hl 1 rfl) ?_
      exact ret x2_2 (lf_1, sl_1) _ _ _ _ h rfl hw dX0_data_32
  refine lv_iload_n hx hb dX0_data_5 rfl (lv_at hl 0 rfl) ?_
  refine lv_aload_n hx hb dX0_data_6 rfl (lv_at hl 1 rfl) ?_
  refine lv_aload_n hx hb dX0_data_7 rfl (lv_at hl 1 rfl) ?_
  refine gt_get_dep C hw dX0_data_8 ?_
  refine g_callVi (rest := [.int r_1]) C (c_X0_endOf l D a d _ _ _ _ _ _ _ _ _ _ _ _ _ dep h) 92 RX0 (lw_V q145 q147 qs10 q23 q148) (na := 1) (by decide +kernel) rfl (by decide) 0 rfl rfl rfl hw hl.1 rfl (Nat.le_of_ble_eq_true rfl) ⟨Nat.le_refl _, Nat.le_refl _⟩ dX0_data_11 (fun r_7 u_7 H locs h hw => ?_)
  refine lv_icmp_ge (tgt := 22) hx hb dX0_data_14 (by decide) (fun c8 => ?_) (fun c8 => ?_)
  · have h := h.1 c8
    refine lv_iconst (v := 0) hx hb dX0_data_22 (by decide) ?_
    refine lv_istore_n (lv' := [(2, .int 0), (1, .int r_1), (0, .ref (a 0))]) hx hb dX0_data_23 rfl hl (by decide) rfl (fun ls hl => ?_)
    exact join_2 _ _ _ _ h hw (lv_sub hl [2, 0] rfl)
  · have h := h.2 c8
    refine lv_bipush (v := 10) hx hb dX0_data_17 (by decide) ?_
    refine lv_goto (tgt := 23) hx hb dX0_data_19 (by decide) ?_
    refine lv_istore_n (lv' := [(2, .int 10), (1, .int r_1), (0, .ref (a 0))]) hx hb dX0_data_23 rfl hl (by decide) rfl (fun ls hl => ?_)
    exact join_2 _ _ _ _ h hw (lv_sub hl [2, 0] rfl)
set_option maxHeartbeats 4000000 in
set_option maxRecDepth 100000 in
theorem c_X0_value (l : Launch) (D : va_G) (a : Nat → Nat) (d : ClassId) (dep : Int32) (sub : Nat → Int32) (lv : Int32) (siz : Nat → Int32) (ky : Nat → Int32) (va : Nat → Int32) (tot : Int32) (lf : Int32) (sl : Int32) (mk : Nat → Int32) (mv : Nat → Int32) (pk : Nat → Int32) (pv : Nat → Int32) {K : Int32 → Int32 → Int32 → Prop} (h : X0_value_w dep sub lv siz ky va lf sl K) : CTi l yX0_value cX0_value 3 (some .int)  (gRm 2 46) D d [.ref (a 0)] (gT a d dep sub lv siz ky va tot lf sl mk mv pk pv) (S := Int32 × Int32) (fun (r : Int32) (u : Int32 × Int32) => K r u.1 u.2) (fun u => gT a d dep sub lv siz ky va tot u.1 u.2 mk mv pk pv) := by
  refine gEnter_i (by decide) (Nat.le_of_ble_eq_true rfl) ?_
  intro p e s m args below meth c A Q ls C ret hl hw
  have C : gCx RX0 cX0_value 3 (some .int) D d A p s m args meth c := C
  have hx := C.1.1
  have hb := C.1.2.1
  have hown := C.1.2.2.2.1
  have hts := C.1.2.2.2.2
  have hl : lv_has ls 3 [(0, .ref (a 0))] := hl
  unfold X0_value_w at h
  refine lv_aload_n hx hb dX0_value_0 rfl (lv_at hl 0 rfl) ?_
  refine gt_get_dep C hw dX0_value_1 ?_
  refine lv_if_ne (tgt := 9) hx hb dX0_value_4 (by decide) (fun c1 => ?_) (fun c1 => ?_)
  · have h := h.1 c1
    refine lv_aload_n hx hb dX0_value_9 rfl (lv_at hl 0 rfl) ?_
    refine lv_aload_n hx hb dX0_value_10 rfl (lv_at hl 0 rfl) ?_
    refine gt_get_dep C hw dX0_value_11 ?_
    refine g_callVi (rest := []) C (c_X0_keyOf l D a d _ _ _ _ _ _ _ _ _ _ _ _ _ dep h) 50 RX0 (lw_V q93 q95 qs0 q23 q96) (na := 1) (by decide +kernel) rfl (by decide) 0 rfl rfl rfl hw hl.1 rfl (Nat.le_of_ble_eq_true rfl) ⟨Nat.le_refl _, Nat.le_refl _⟩ dX0_value_14 (fun r_2 u_2 H locs h hw => ?_)
    refine lv_istore_n (lv' := [(1, .int r_2), (0, .ref (a 0))]) hx hb dX0_value_17 rfl hl (by decide) rfl (fun ls hl => ?_)
    refine lv_aload_n hx hb dX0_value_18 rfl (lv_at hl 1 rfl) ?_
    refine lv_iload_n hx hb dX0_value_19 rfl (lv_at hl 0 rfl) ?_
    refine g_callVi (rest := []) C (c_X0_present l D a d _ _ _ _ _ _ _ _ _ _ _ _ _ r_2 h) 83 RX0 (lw_V q100 q102 qs1 q23 q103) (na := 1) (by decide +kernel) rfl (by decide) 0 rfl rfl rfl hw hl.1 rfl (Nat.le_of_ble_eq_true rfl) ⟨Nat.le_refl _, Nat.le_refl _⟩ dX0_value_20 (fun r_3 u_3 H locs h hw => ?_)
    obtain ⟨lf_3, sl_3⟩ := u_3
    have hw : gSt D A s (gT a d dep sub lv siz ky va tot lf_3 sl_3 mk mv pk pv) H locs := hw
    refine lv_istore_n (lv' := [(2, .int r_3), (1, .int r_2), (0, .ref (a 0))]) hx hb dX0_value_23 rfl hl (by decide) rfl (fun ls hl => ?_)
    refine lv_iload_n hx hb dX0_value_24 rfl (lv_at hl 0 rfl) ?_
    refine lv_if_eq (tgt := 48) hx hb dX0_value_25 (by decide) (fun c4 => ?_) (fun c4 => ?_)
    · have h := h.1 c4
      refine lv_iconst (v := 0) hx hb dX0_value_48 (by decide) ?_
      exact ret 0 (lf_3, sl_3) _ _ _ _ h rfl hw dX0_value_49
    · have h := h.2 c4
      refine lv_aload_n hx hb dX0_value_28 rfl (lv_at hl 2 rfl) ?_
      refine gt_get_va C hw dX0_value_29 ?_
      refine lv_aload_n hx hb dX0_value_32 rfl (lv_at hl 2 rfl) ?_
      refine gt_get_lf C hw dX0_value_33 ?_
      refine lv_bipush (v := 8) hx hb dX0_value_36 (by decide) ?_
      refine lv_imul hx hb dX0_value_38 ?_
      refine lv_aload_n hx hb dX0_value_39 rfl (lv_at hl 2 rfl) ?_
      refine gt_get_sl C hw dX0_value_40 ?_
      refine lv_iadd hx hb dX0_value_43 ?_
      have b5 := h.1
      have h := h.2
      refine gt_ald_va C hw b5 dX0_value_44 ?_
      refine lv_goto (tgt := 49) hx hb dX0_value_45 (by decide) ?_
      exact ret (va ((lf_3 * 8) + sl_3).toNatClampNeg) (lf_3, sl_3) _ _ _ _ h rfl hw dX0_value_49
  · have h := h.2 c1
    refine lv_iconst (v := 0) hx hb dX0_value_7 (by decide) ?_
    exact ret 0 (lf, sl) _ _ _ _ h rfl hw dX0_value_8
set_option maxHeartbeats 4000000 in
set_option maxRecDepth 100000 in
theorem c_X0_subscriptAt (l : Launch) (D : va_G) (d : ClassId) (z1 : Int32) (z2 : Int32) {K : Int32 → Prop} (h : X0_subscriptAt_w z1 z2 K) : CTi l yX0_subscriptAt cX0_subscriptAt 2 (some .int) (gRm 0 0) D d [.int z1, .int z2] [] (S := Unit) (fun (r : Int32) (_ : Unit) => K r) (fun _ => []) := by
  refine gEnter_i (by decide) (Nat.le_of_ble_eq_true rfl) ?_
  intro p e s m args below meth c A Q ls C ret hl hw
  have C : gCx RX0 cX0_subscriptAt 2 (some .int) D d A p s m args meth c := C
  have hx := C.1.1
  have hb := C.1.2.1
  have hown := C.1.2.2.2.1
  have hts := C.1.2.2.2.2
  have hl : lv_has ls 2 [(0, .int z1), (1, .int z2)] := hl
  unfold X0_subscriptAt_w at h
  refine lv_iload_n hx hb dX0_subscriptAt_0 rfl (lv_at hl 0 rfl) ?_
  refine lv_bipush (v := 14) hx hb dX0_subscriptAt_1 (by decide) ?_
  refine lv_bipush (v := 7) hx hb dX0_subscriptAt_3 (by decide) ?_
  refine lv_iload_n hx hb dX0_subscriptAt_5 rfl (lv_at hl 1 rfl) ?_
  refine lv_imul hx hb dX0_subscriptAt_6 ?_
  refine lv_isub hx hb dX0_subscriptAt_7 ?_
  refine lv_ishr hx hb dX0_subscriptAt_8 ?_
  refine lv_bipush (v := 127) hx hb dX0_subscriptAt_9 (by decide) ?_
  refine lv_iand hx hb dX0_subscriptAt_11 ?_
  refine lv_bipush (v := 51) hx hb dX0_subscriptAt_12 (by decide) ?_
  refine lv_isub hx hb dX0_subscriptAt_14 ?_
  exact ret (((z1 >>> ((14 - (7 * z2)) &&& 31)) &&& 127) - 51) () _ _ _ _ h rfl hw dX0_subscriptAt_15
set_option maxHeartbeats 4000000 in
set_option maxRecDepth 100000 in
theorem c_X0_next (l : Launch) (D : va_G) (a : Nat → Nat) (d : ClassId) (dep : Int32) (sub : Nat → Int32) (lv : Int32) (siz : Nat → Int32) (ky : Nat → Int32) (va : Nat → Int32) (tot : Int32) (lf : Int32) (sl : Int32) (mk : Nat → Int32) (mv : Nat → Int32) (pk : Nat → Int32) (pv : Nat → Int32) {K : Int32 → Int32 → Int32 → Prop} (h : X0_next_w dep sub lv siz ky lf sl K) : CTi l yX0_next cX0_next 3 (some .int)  (gRm 3 64) D d [.ref (a 0)] (gT a d dep sub lv siz ky va tot lf sl mk mv pk pv) (S := Int32 × Int32) (fun (r : Int32) (u : Int32 × Int32) => K r u.1 u.2) (fun u => gT a d dep sub lv siz ky va tot u.1 u.2 mk mv pk pv) := by
  refine gEnter_i (by decide) (Nat.le_of_ble_eq_true rfl) ?_
  intro p e s m args below meth c A Q ls C ret hl hw
  have C : gCx RX0 cX0_next 3 (some .int) D d A p s m args meth c := C
  have hx := C.1.1
  have hb := C.1.2.1
  have hown := C.1.2.2.2.1
  have hts := C.1.2.2.2.2
  have hl : lv_has ls 3 [(0, .ref (a 0))] := hl
  unfold X0_next_w at h
  refine lv_aload_n hx hb dX0_next_0 rfl (lv_at hl 0 rfl) ?_
  refine gt_get_dep C hw dX0_next_1 ?_
  refine lv_if_ne (tgt := 10) hx hb dX0_next_4 (by decide) (fun c1 => ?_) (fun c1 => ?_)
  · have h := h.1 c1
    refine lv_aload_n hx hb dX0_next_10 rfl (lv_at hl 0 rfl) ?_
    refine lv_aload_n hx hb dX0_next_11 rfl (lv_at hl 0 rfl) ?_
    refine gt_get_dep C hw dX0_next_12 ?_
    refine g_callVi (rest := []) C (c_X0_endOf l D a d _ _ _ _ _ _ _ _ _ _ _ _ _ dep h) 92 RX0 (lw_V q145 q147 qs10 q23 q148) (na := 1) (by decide +kernel) rfl (by decide) 0 rfl rfl rfl hw hl.1 rfl (Nat.le_of_ble_eq_true rfl) ⟨Nat.le_refl _, Nat.le_refl _⟩ dX0_next_15 (fun r_2 u_2 H locs h hw => ?_)
    refine lv_istore_n (lv' := [(1, .int r_2), (0, .ref (a 0))]) hx hb dX0_next_18 rfl hl (by decide) rfl (fun ls hl => ?_)
    refine lv_aload_n hx hb dX0_next_19 rfl (lv_at hl 1 rfl) ?_
    refine lv_iload_n hx hb dX0_next_20 rfl (lv_at hl 0 rfl) ?_
    refine g_callVv (rest := []) C (c_X0_seek l D a d _ _ _ _ _ _ _ _ _ _ _ _ _ r_2 h) 59 RX0 (lw_V q104 q106 qs2 q23 q107) (na := 1) (by decide +kernel) rfl (by decide) 0 rfl rfl rfl hw hl.1 rfl (Nat.le_of_ble_eq_true rfl) ⟨Nat.le_refl _, Nat.le_refl _⟩ dX0_next_21 (fun u_3 H locs h hw => ?_)
    obtain ⟨lf_3, sl_3⟩ := u_3
    have hw : gSt D A s (gT a d dep sub lv siz ky va tot lf_3 sl_3 mk mv pk pv) H locs := hw
    refine lv_aload_n hx hb dX0_next_24 rfl (lv_at hl 1 rfl) ?_
    refine g_callVi (rest := []) C (c_X0_found l D a d _ _ _ _ _ _ _ _ _ _ _ _ _  h) 63 RX0 (lw_V q108 q110 qs3 q23 q111) (na := 0) (by decide +kernel) rfl (by decide) 0 rfl rfl rfl hw hl.1 rfl (Nat.le_of_ble_eq_true rfl) ⟨Nat.le_refl _, Nat.le_refl _⟩ dX0_next_25 (fun r_4 u_4 H locs h hw => ?_)
    refine lv_istore_n (lv' := [(2, .int r_4), (1, .int r_2), (0, .ref (a 0))]) hx hb dX0_next_28 rfl hl (by decide) rfl (fun ls hl => ?_)
    refine lv_iload_n hx hb dX0_next_29 rfl (lv_at hl 0 rfl) ?_
    refine lv_aload_n hx hb dX0_next_30 rfl (lv_at hl 2 rfl) ?_
    refine lv_aload_n hx hb dX0_next_31 rfl (lv_at hl 2 rfl) ?_
    refine gt_get_dep C hw dX0_next_32 ?_
    refine lv_iconst (v := 1) hx hb dX0_next_35 (by decide) ?_
    refine lv_isub hx hb dX0_next_36 ?_
    refine g_callVi (rest := [.int r_4]) C (c_X0_endOf l D a d _ _ _ _ _ _ _ _ _ _ _ _ _ (dep - 1) h) 92 RX0 (lw_V q145 q147 qs10 q23 q148) (na := 1) (by decide +kernel) rfl (by decide) 0 rfl rfl rfl hw hl.1 rfl (Nat.le_of_ble_eq_true rfl) ⟨Nat.le_refl _, Nat.le_refl _⟩ dX0_next_37 (fun r_5 u_5 H locs h hw => ?_)
    refine lv_icmp_ge (tgt := 56) hx hb dX0_next_40 (by decide) (fun c6 => ?_) (fun c6 => ?_)
    · have h := h.1 c6
      refine lv_bipush (v := (-100)) hx hb dX0_next_56 (by decide) ?_
      exact ret (-100) (lf_3, sl_3) _ _ _ _ h rfl hw dX0_next_58
    · have h := h.2 c6
      refine lv_iload_n hx hb dX0_next_43 rfl (lv_at hl 0 rfl) ?_
      refine lv_aload_n hx hb dX0_next_44 rfl (lv_at hl 2 rfl) ?_
      refine gt_get_dep C hw dX0_next_45 ?_
      refine lv_iconst (v := 1) hx hb dX0_next_48 (by decide) ?_
      refine lv_isub hx hb dX0_next_49 ?_
      refine g_callSi (rest := []) C (c_X0_subscriptAt l D d r_4 (dep - 1) h) 101 (lw_S q173 q174 q23 q175) (na := 2) (by decide +kernel) rfl (by decide) hw hl.1 rfl (Nat.le_of_ble_eq_true rfl) ⟨Nat.le_refl _, Nat.le_refl _⟩ dX0_next_50 (fun r_7 H locs h hw => ?_)
      refine lv_goto (tgt := 58) hx hb dX0_next_53 (by decide) ?_
      exact ret r_7 (lf_3, sl_3) _ _ _ _ h rfl hw dX0_next_58
  · have h := h.2 c1
    refine lv_bipush (v := (-100)) hx hb dX0_next_7 (by decide) ?_
    exact ret (-100) (lf, sl) _ _ _ _ h rfl hw dX0_next_9
set_option maxHeartbeats 4000000 in
set_option maxRecDepth 100000 in
theorem c_X0_keyBefore (l : Launch) (D : va_G) (a : Nat → Nat) (d : ClassId) (dep : Int32) (sub : Nat → Int32) (lv : Int32) (siz : Nat → Int32) (ky : Nat → Int32) (va : Nat → Int32) (tot : Int32) (lf : Int32) (sl : Int32) (mk : Nat → Int32) (mv : Nat → Int32) (pk : Nat → Int32) (pv : Nat → Int32) (z1 : Int32) {K : Int32 → Int32 → Int32 → Prop} (h : X0_keyBefore_w lv siz ky z1 K) : CTi l yX0_keyBefore cX0_keyBefore 2 (some .int)  (gRm 1 24) D d [.ref (a 0), .int z1] (gT a d dep sub lv siz ky va tot lf sl mk mv pk pv) (S := Int32 × Int32) (fun (r : Int32) (u : Int32 × Int32) => K r u.1 u.2) (fun u => gT a d dep sub lv siz ky va tot u.1 u.2 mk mv pk pv) := by
  refine gEnter_i (by decide) (Nat.le_of_ble_eq_true rfl) ?_
  intro p e s m args below meth c A Q ls C ret hl hw
  have C : gCx RX0 cX0_keyBefore 2 (some .int) D d A p s m args meth c := C
  have hx := C.1.1
  have hb := C.1.2.1
  have hown := C.1.2.2.2.1
  have hts := C.1.2.2.2.2
  have hl : lv_has ls 2 [(0, .ref (a 0)), (1, .int z1)] := hl
  unfold X0_keyBefore_w at h
  refine lv_aload_n hx hb dX0_keyBefore_0 rfl (lv_at hl 0 rfl) ?_
  refine lv_iload_n hx hb dX0_keyBefore_1 rfl (lv_at hl 1 rfl) ?_
  refine g_callVv (rest := []) C (c_X0_seek l D a d _ _ _ _ _ _ _ _ _ _ _ _ _ z1 h) 59 RX0 (lw_V q104 q106 qs2 q23 q107) (na := 1) (by decide +kernel) rfl (by decide) 0 rfl rfl rfl hw hl.1 rfl (Nat.le_of_ble_eq_true rfl) ⟨Nat.le_refl _, Nat.le_refl _⟩ dX0_keyBefore_2 (fun u_1 H locs h hw => ?_)
  obtain ⟨lf_1, sl_1⟩ := u_1
  have hw : gSt D A s (gT a d dep sub lv siz ky va tot lf_1 sl_1 mk mv pk pv) H locs := hw
  refine lv_aload_n hx hb dX0_keyBefore_5 rfl (lv_at hl 0 rfl) ?_
  refine gt_get_sl C hw dX0_keyBefore_6 ?_
  refine lv_if_le (tgt := 32) hx hb dX0_keyBefore_9 (by decide) (fun c2 => ?_) (fun c2 => ?_)
  · have h := h.1 c2
    refine lv_aload_n hx hb dX0_keyBefore_32 rfl (lv_at hl 0 rfl) ?_
    refine gt_get_lf C hw dX0_keyBefore_33 ?_
    refine lv_if_ne (tgt := 41) hx hb dX0_keyBefore_36 (by decide) (fun c3 => ?_) (fun c3 => ?_)
    · have h := h.1 c3
      refine lv_aload_n hx hb dX0_keyBefore_41 rfl (lv_at hl 0 rfl) ?_
      refine gt_get_ky C hw dX0_keyBefore_42 ?_
      refine lv_aload_n hx hb dX0_keyBefore_45 rfl (lv_at hl 0 rfl) ?_
      refine gt_get_lf C hw dX0_keyBefore_46 ?_
      refine lv_iconst (v := 1) hx hb dX0_keyBefore_49 (by decide) ?_
      refine lv_isub hx hb dX0_keyBefore_50 ?_
      refine lv_bipush (v := 8) hx hb dX0_keyBefore_51 (by decide) ?_
      refine lv_imul hx hb dX0_keyBefore_53 ?_
      refine lv_aload_n hx hb dX0_keyBefore_54 rfl (lv_at hl 0 rfl) ?_
      refine gt_get_siz C hw dX0_keyBefore_55 ?_
      refine lv_aload_n hx hb dX0_keyBefore_58 rfl (lv_at hl 0 rfl) ?_
      refine gt_get_lf C hw dX0_keyBefore_59 ?_
      refine lv_iconst (v := 1) hx hb dX0_keyBefore_62 (by decide) ?_
      refine lv_isub hx hb dX0_keyBefore_63 ?_
      have b4 := h.1
      have h := h.2
      refine gt_ald_siz C hw b4 dX0_keyBefore_64 ?_
      refine lv_iadd hx hb dX0_keyBefore_65 ?_
      refine lv_iconst (v := 1) hx hb dX0_keyBefore_66 (by decide) ?_
      refine lv_isub hx hb dX0_keyBefore_67 ?_
      have b5 := h.1
      have h := h.2
      refine gt_ald_ky C hw b5 dX0_keyBefore_68 ?_
      exact ret (ky ((((lf_1 - 1) * 8) + (siz (lf_1 - 1).toNatClampNeg)) - 1).toNatClampNeg) (lf_1, sl_1) _ _ _ _ h rfl hw dX0_keyBefore_69
    · have h := h.2 c3
      refine lv_iconst (v := (-1)) hx hb dX0_keyBefore_39 (by decide) ?_
      exact ret (-1) (lf_1, sl_1) _ _ _ _ h rfl hw dX0_keyBefore_40
  · have h := h.2 c2
    refine lv_aload_n hx hb dX0_keyBefore_12 rfl (lv_at hl 0 rfl) ?_
    refine gt_get_ky C hw dX0_keyBefore_13 ?_
    refine lv_aload_n hx hb dX0_keyBefore_16 rfl (lv_at hl 0 rfl) ?_
    refine gt_get_lf C hw dX0_keyBefore_17 ?_
    refine lv_bipush (v := 8) hx hb dX0_keyBefore_20 (by decide) ?_
    refine lv_imul hx hb dX0_keyBefore_22 ?_
    refine lv_aload_n hx hb dX0_keyBefore_23 rfl (lv_at hl 0 rfl) ?_
    refine gt_get_sl C hw dX0_keyBefore_24 ?_
    refine lv_iadd hx hb dX0_keyBefore_27 ?_
    refine lv_iconst (v := 1) hx hb dX0_keyBefore_28 (by decide) ?_
    refine lv_isub hx hb dX0_keyBefore_29 ?_
    have b6 := h.1
    have h := h.2
    refine gt_ald_ky C hw b6 dX0_keyBefore_30 ?_
    exact ret (ky (((lf_1 * 8) + sl_1) - 1).toNatClampNeg) (lf_1, sl_1) _ _ _ _ h rfl hw dX0_keyBefore_31
set_option maxHeartbeats 4000000 in
set_option maxRecDepth 100000 in
theorem c_X0_previous (l : Launch) (D : va_G) (a : Nat → Nat) (d : ClassId) (dep : Int32) (sub : Nat → Int32) (lv : Int32) (siz : Nat → Int32) (ky : Nat → Int32) (va : Nat → Int32) (tot : Int32) (lf : Int32) (sl : Int32) (mk : Nat → Int32) (mv : Nat → Int32) (pk : Nat → Int32) (pv : Nat → Int32) {K : Int32 → Int32 → Int32 → Prop} (h : X0_previous_w dep sub lv siz ky lf sl K) : CTi l yX0_previous cX0_previous 4 (some .int)  (gRm 2 45) D d [.ref (a 0)] (gT a d dep sub lv siz ky va tot lf sl mk mv pk pv) (S := Int32 × Int32) (fun (r : Int32) (u : Int32 × Int32) => K r u.1 u.2) (fun u => gT a d dep sub lv siz ky va tot u.1 u.2 mk mv pk pv) := by
  refine gEnter_i (by decide) (Nat.le_of_ble_eq_true rfl) ?_
  intro p e s m args below meth c A Q ls C ret hl hw
  have C : gCx RX0 cX0_previous 4 (some .int) D d A p s m args meth c := C
  have hx := C.1.1
  have hb := C.1.2.1
  have hown := C.1.2.2.2.1
  have hts := C.1.2.2.2.2
  have hl : lv_has ls 4 [(0, .ref (a 0))] := hl
  unfold X0_previous_w at h
  refine lv_aload_n hx hb dX0_previous_0 rfl (lv_at hl 0 rfl) ?_
  refine gt_get_dep C hw dX0_previous_1 ?_
  refine lv_if_ne (tgt := 10) hx hb dX0_previous_4 (by decide) (fun c1 => ?_) (fun c1 => ?_)
  · have h := h.1 c1
    refine lv_aload_n hx hb dX0_previous_10 rfl (lv_at hl 0 rfl) ?_
    refine lv_aload_n hx hb dX0_previous_11 rfl (lv_at hl 0 rfl) ?_
    refine gt_get_dep C hw dX0_previous_12 ?_
    refine g_callVi (rest := []) C (c_X0_keyOf l D a d _ _ _ _ _ _ _ _ _ _ _ _ _ dep h) 50 RX0 (lw_V q93 q95 qs0 q23 q96) (na := 1) (by decide +kernel) rfl (by decide) 0 rfl rfl rfl hw hl.1 rfl (Nat.le_of_ble_eq_true rfl) ⟨Nat.le_refl _, Nat.le_refl _⟩ dX0_previous_15 (fun r_2 u_2 H locs h hw => ?_)
    refine lv_istore_n (lv' := [(1, .int r_2), (0, .ref (a 0))]) hx hb dX0_previous_18 rfl hl (by decide) rfl (fun ls hl => ?_)
    refine lv_aload_n hx hb dX0_previous_19 rfl (lv_at hl 1 rfl) ?_
    refine lv_iload_n hx hb dX0_previous_20 rfl (lv_at hl 0 rfl) ?_
    refine g_callVi (rest := []) C (c_X0_keyBefore l D a d _ _ _ _ _ _ _ _ _ _ _ _ _ r_2 h) 105 RX0 (lw_V q180 q182 qs13 q23 q183) (na := 1) (by decide +kernel) rfl (by decide) 0 rfl rfl rfl hw hl.1 rfl (Nat.le_of_ble_eq_true rfl) ⟨Nat.le_refl _, Nat.le_refl _⟩ dX0_previous_21 (fun r_3 u_3 H locs h hw => ?_)
    obtain ⟨lf_3, sl_3⟩ := u_3
    have hw : gSt D A s (gT a d dep sub lv siz ky va tot lf_3 sl_3 mk mv pk pv) H locs := hw
    refine lv_istore_n (lv' := [(2, .int r_3), (1, .int r_2), (0, .ref (a 0))]) hx hb dX0_previous_24 rfl hl (by decide) rfl (fun ls hl => ?_)
    refine lv_aload_n hx hb dX0_previous_25 rfl (lv_at hl 2 rfl) ?_
    refine lv_aload_n hx hb dX0_previous_26 rfl (lv_at hl 2 rfl) ?_
    refine gt_get_dep C hw dX0_previous_27 ?_
    refine lv_iconst (v := 1) hx hb dX0_previous_30 (by decide) ?_
    refine lv_isub hx hb dX0_previous_31 ?_
    refine g_callVi (rest := []) C (c_X0_keyOf l D a d _ _ _ _ _ _ _ _ _ _ _ _ _ (dep - 1) h) 50 RX0 (lw_V q93 q95 qs0 q23 q96) (na := 1) (by decide +kernel) rfl (by decide) 0 rfl rfl rfl hw hl.1 rfl (Nat.le_of_ble_eq_true rfl) ⟨Nat.le_refl _, Nat.le_refl _⟩ dX0_previous_32 (fun r_4 u_4 H locs h hw => ?_)
    refine lv_aload_n hx hb dX0_previous_35 rfl (lv_at hl 2 rfl) ?_
    refine gt_get_dep C hw dX0_previous_36 ?_
    refine lv_iconst (v := 1) hx hb dX0_previous_39 (by decide) ?_
    refine lv_isub hx hb dX0_previous_40 ?_
    refine g_callSi (rest := [.int r_4]) C (c_X0_unit l D d (dep - 1) h) 45 (lw_S q97 q98 q23 q99) (na := 1) (by decide +kernel) rfl (by decide) hw hl.1 rfl (Nat.le_of_ble_eq_true rfl) ⟨Nat.le_refl _, Nat.le_refl _⟩ dX0_previous_41 (fun r_5 H locs h hw => ?_)
    refine lv_iadd hx hb dX0_previous_44 ?_
    refine lv_istore_n (lv' := [(3, .int (r_4 + r_5)), (2, .int r_3), (1, .int r_2), (0, .ref (a 0))]) hx hb dX0_previous_45 rfl hl (by decide) rfl (fun ls hl => ?_)
    refine lv_iload_n hx hb dX0_previous_46 rfl (lv_at hl 1 rfl) ?_
    refine lv_iload_n hx hb dX0_previous_47 rfl (lv_at hl 0 rfl) ?_
    refine lv_icmp_ge (tgt := 56) hx hb dX0_previous_48 (by decide) (fun c6 => ?_) (fun c6 => ?_)
    · have h := h.1 c6
      refine lv_iload_n hx hb dX0_previous_56 rfl (lv_at hl 1 rfl) ?_
      refine lv_aload_n hx hb dX0_previous_57 rfl (lv_at hl 3 rfl) ?_
      refine gt_get_dep C hw dX0_previous_58 ?_
      refine lv_iconst (v := 1) hx hb dX0_previous_61 (by decide) ?_
      refine lv_isub hx hb dX0_previous_62 ?_
      refine g_callSi (rest := []) C (c_X0_subscriptAt l D d r_3 (dep - 1) h) 101 (lw_S q173 q174 q23 q175) (na := 2) (by decide +kernel) rfl (by decide) hw hl.1 rfl (Nat.le_of_ble_eq_true rfl) ⟨Nat.le_refl _, Nat.le_refl _⟩ dX0_previous_63 (fun r_7 H locs h hw => ?_)
      exact ret r_7 (lf_3, sl_3) _ _ _ _ h rfl hw dX0_previous_66
    · have h := h.2 c6
      refine lv_bipush (v := (-100)) hx hb dX0_previous_51 (by decide) ?_
      refine lv_goto (tgt := 66) hx hb dX0_previous_53 (by decide) ?_
      exact ret (-100) (lf_3, sl_3) _ _ _ _ h rfl hw dX0_previous_66
  · have h := h.2 c1
    refine lv_bipush (v := (-100)) hx hb dX0_previous_7 (by decide) ?_
    exact ret (-100) (lf, sl) _ _ _ _ h rfl hw dX0_previous_9
set_option maxHeartbeats 4000000 in
set_option maxRecDepth 100000 in
theorem c_X0_first (l : Launch) (D : va_G) (a : Nat → Nat) (d : ClassId) (dep : Int32) (sub : Nat → Int32) (lv : Int32) (siz : Nat → Int32) (ky : Nat → Int32) (va : Nat → Int32) (tot : Int32) (lf : Int32) (sl : Int32) (mk : Nat → Int32) (mv : Nat → Int32) (pk : Nat → Int32) (pv : Nat → Int32) {K : Int32 → Int32 → Int32 → Prop} (h : X0_first_w dep sub lv siz ky lf sl K) : CTi l yX0_first cX0_first 2 (some .int)  (gRm 3 64) D d [.ref (a 0)] (gT a d dep sub lv siz ky va tot lf sl mk mv pk pv) (S := Int32 × Int32) (fun (r : Int32) (u : Int32 × Int32) => K r u.1 u.2) (fun u => gT a d dep sub lv siz ky va tot u.1 u.2 mk mv pk pv) := by
  refine gEnter_i (by decide) (Nat.le_of_ble_eq_true rfl) ?_
  intro p e s m args below meth c A Q ls C ret hl hw
  have C : gCx RX0 cX0_first 2 (some .int) D d A p s m args meth c := C
  have hx := C.1.1
  have hb := C.1.2.1
  have hown := C.1.2.2.2.1
  have hts := C.1.2.2.2.2
  have hl : lv_has ls 2 [(0, .ref (a 0))] := hl
  unfold X0_first_w at h
  refine lv_aload_n hx hb dX0_first_0 rfl (lv_at hl 0 rfl) ?_
  refine gt_get_dep C hw dX0_first_1 ?_
  refine lv_iconst (v := 3) hx hb dX0_first_4 (by decide) ?_
  refine lv_icmp_lt (tgt := 11) hx hb dX0_first_5 (by decide) (fun c1 => ?_) (fun c1 => ?_)
  · have h := h.1 c1
    refine lv_aload_n hx hb dX0_first_11 rfl (lv_at hl 0 rfl) ?_
    refine g_callVi (rest := []) C (c_X0_keyBehind l D a d _ _ _ _ _ _ _ _ _ _ _ _ _  h) 98 RX0 (lw_V q161 q163 qs12 q23 q164) (na := 0) (by decide +kernel) rfl (by decide) 0 rfl rfl rfl hw hl.1 rfl (Nat.le_of_ble_eq_true rfl) ⟨Nat.le_refl _, Nat.le_refl _⟩ dX0_first_12 (fun r_2 u_2 H locs h hw => ?_)
    obtain ⟨lf_2, sl_2⟩ := u_2
    have hw : gSt D A s (gT a d dep sub lv siz ky va tot lf_2 sl_2 mk mv pk pv) H locs := hw
    refine lv_istore_n (lv' := [(1, .int r_2), (0, .ref (a 0))]) hx hb dX0_first_15 rfl hl (by decide) rfl (fun ls hl => ?_)
    refine lv_iload_n hx hb dX0_first_16 rfl (lv_at hl 0 rfl) ?_
    refine lv_aload_n hx hb dX0_first_17 rfl (lv_at hl 1 rfl) ?_
    refine lv_aload_n hx hb dX0_first_18 rfl (lv_at hl 1 rfl) ?_
    refine gt_get_dep C hw dX0_first_19 ?_
    refine g_callVi (rest := [.int r_2]) C (c_X0_endOf l D a d _ _ _ _ _ _ _ _ _ _ _ _ _ dep h) 92 RX0 (lw_V q145 q147 qs10 q23 q148) (na := 1) (by decide +kernel) rfl (by decide) 0 rfl rfl rfl hw hl.1 rfl (Nat.le_of_ble_eq_true rfl) ⟨Nat.le_refl _, Nat.le_refl _⟩ dX0_first_22 (fun r_3 u_3 H locs h hw => ?_)
    refine lv_icmp_ge (tgt := 39) hx hb dX0_first_25 (by decide) (fun c4 => ?_) (fun c4 => ?_)
    · have h := h.1 c4
      refine lv_bipush (v := (-100)) hx hb dX0_first_39 (by decide) ?_
      exact ret (-100) (lf_2, sl_2) _ _ _ _ h rfl hw dX0_first_41
    · have h := h.2 c4
      refine lv_iload_n hx hb dX0_first_28 rfl (lv_at hl 0 rfl) ?_
      refine lv_aload_n hx hb dX0_first_29 rfl (lv_at hl 1 rfl) ?_
      refine gt_get_dep C hw dX0_first_30 ?_
      refine g_callSi (rest := []) C (c_X0_subscriptAt l D d r_2 dep h) 101 (lw_S q173 q174 q23 q175) (na := 2) (by decide +kernel) rfl (by decide) hw hl.1 rfl (Nat.le_of_ble_eq_true rfl) ⟨Nat.le_refl _, Nat.le_refl _⟩ dX0_first_33 (fun r_5 H locs h hw => ?_)
      refine lv_goto (tgt := 41) hx hb dX0_first_36 (by decide) ?_
      exact ret r_5 (lf_2, sl_2) _ _ _ _ h rfl hw dX0_first_41
  · have h := h.2 c1
    refine lv_bipush (v := (-100)) hx hb dX0_first_8 (by decide) ?_
    exact ret (-100) (lf, sl) _ _ _ _ h rfl hw dX0_first_10
set_option maxHeartbeats 4000000 in
set_option maxRecDepth 100000 in
theorem c_X0_query (l : Launch) (D : va_G) (a : Nat → Nat) (d : ClassId) (dep : Int32) (sub : Nat → Int32) (lv : Int32) (siz : Nat → Int32) (ky : Nat → Int32) (va : Nat → Int32) (tot : Int32) (lf : Int32) (sl : Int32) (mk : Nat → Int32) (mv : Nat → Int32) (pk : Nat → Int32) (pv : Nat → Int32) {K : Int32 → Int32 → Int32 → Prop} (h : X0_query_w dep sub lv siz ky va K) : CTi l yX0_query cX0_query 2 (some .int)  (gRm 3 64) D d [.ref (a 0)] (gT a d dep sub lv siz ky va tot lf sl mk mv pk pv) (S := Int32 × Int32) (fun (r : Int32) (u : Int32 × Int32) => K r u.1 u.2) (fun u => gT a d dep sub lv siz ky va tot u.1 u.2 mk mv pk pv) := by
  refine gEnter_i (by decide) (Nat.le_of_ble_eq_true rfl) ?_
  intro p e s m args below meth c A Q ls C ret hl hw
  have C : gCx RX0 cX0_query 2 (some .int) D d A p s m args meth c := C
  have hx := C.1.1
  have hb := C.1.2.1
  have hown := C.1.2.2.2.1
  have hts := C.1.2.2.2.2
  have hl : lv_has ls 2 [(0, .ref (a 0))] := hl
  unfold X0_query_w at h
  refine lv_aload_n hx hb dX0_query_0 rfl (lv_at hl 0 rfl) ?_
  refine g_callVi (rest := []) C (c_X0_keyBehind l D a d _ _ _ _ _ _ _ _ _ _ _ _ _  h) 98 RX0 (lw_V q161 q163 qs12 q23 q164) (na := 0) (by decide +kernel) rfl (by decide) 0 rfl rfl rfl hw hl.1 rfl (Nat.le_of_ble_eq_true rfl) ⟨Nat.le_refl _, Nat.le_refl _⟩ dX0_query_1 (fun r_1 u_1 H locs h hw => ?_)
  obtain ⟨lf_1, sl_1⟩ := u_1
  have hw : gSt D A s (gT a d dep sub lv siz ky va tot lf_1 sl_1 mk mv pk pv) H locs := hw
  refine lv_istore_n (lv' := [(1, .int r_1), (0, .ref (a 0))]) hx hb dX0_query_4 rfl hl (by decide) rfl (fun ls hl => ?_)
  refine lv_iload_n hx hb dX0_query_5 rfl (lv_at hl 0 rfl) ?_
  refine lv_ldc (v := 2097152) hx hb hown (hts _ q112) dX0_query_6 ?_
  refine lv_icmp_ne (tgt := 15) hx hb dX0_query_8 (by decide) (fun c2 => ?_) (fun c2 => ?_)
  · have h := h.1 c2
    refine lv_aload_n hx hb dX0_query_15 rfl (lv_at hl 1 rfl) ?_
    refine gt_get_va C hw dX0_query_16 ?_
    refine lv_aload_n hx hb dX0_query_19 rfl (lv_at hl 1 rfl) ?_
    refine gt_get_lf C hw dX0_query_20 ?_
    refine lv_bipush (v := 8) hx hb dX0_query_23 (by decide) ?_
    refine lv_imul hx hb dX0_query_25 ?_
    refine lv_aload_n hx hb dX0_query_26 rfl (lv_at hl 1 rfl) ?_
    refine gt_get_sl C hw dX0_query_27 ?_
    refine lv_iadd hx hb dX0_query_30 ?_
    have b3 := h.1
    have h := h.2
    refine gt_ald_va C hw b3 dX0_query_31 ?_
    exact ret (va ((lf_1 * 8) + sl_1).toNatClampNeg) (lf_1, sl_1) _ _ _ _ h rfl hw dX0_query_32
  · have h := h.2 c2
    refine lv_iconst (v := 0) hx hb dX0_query_11 (by decide) ?_
    refine lv_goto (tgt := 32) hx hb dX0_query_12 (by decide) ?_
    exact ret 0 (lf_1, sl_1) _ _ _ _ h rfl hw dX0_query_32
set_option maxHeartbeats 4000000 in
set_option maxRecDepth 100000 in
theorem c_X0_before (l : Launch) (D : va_G) (a : Nat → Nat) (d : ClassId) (dep : Int32) (sub : Nat → Int32) (lv : Int32) (siz : Nat → Int32) (ky : Nat → Int32) (va : Nat → Int32) (tot : Int32) (lf : Int32) (sl : Int32) (mk : Nat → Int32) (mv : Nat → Int32) (pk : Nat → Int32) (pv : Nat → Int32) {K : Int32 → Int32 → Int32 → Prop} (h : X0_before_w dep sub lv siz ky K) : CTi l yX0_before cX0_before 4 (some .int)  (gRm 2 43) D d [.ref (a 0)] (gT a d dep sub lv siz ky va tot lf sl mk mv pk pv) (S := Int32 × Int32) (fun (r : Int32) (u : Int32 × Int32) => K r u.1 u.2) (fun u => gT a d dep sub lv siz ky va tot u.1 u.2 mk mv pk pv) := by
  refine gEnter_i (by decide) (Nat.le_of_ble_eq_true rfl) ?_
  intro p e s m args below meth c A Q ls C ret hl hw
  have C : gCx RX0 cX0_before 4 (some .int) D d A p s m args meth c := C
  have hx := C.1.1
  have hb := C.1.2.1
  have hown := C.1.2.2.2.1
  have hts := C.1.2.2.2.2
  have hl : lv_has ls 4 [(0, .ref (a 0))] := hl
  unfold X0_before_w at h
  refine lv_aload_n hx hb dX0_before_0 rfl (lv_at hl 0 rfl) ?_
  refine lv_aload_n hx hb dX0_before_1 rfl (lv_at hl 0 rfl) ?_
  refine gt_get_dep C hw dX0_before_2 ?_
  refine g_callVi (rest := []) C (c_X0_keyOf l D a d _ _ _ _ _ _ _ _ _ _ _ _ _ dep h) 50 RX0 (lw_V q93 q95 qs0 q23 q96) (na := 1) (by decide +kernel) rfl (by decide) 0 rfl rfl rfl hw hl.1 rfl (Nat.le_of_ble_eq_true rfl) ⟨Nat.le_refl _, Nat.le_refl _⟩ dX0_before_5 (fun r_1 u_1 H locs h hw => ?_)
  refine lv_istore_n (lv' := [(1, .int r_1), (0, .ref (a 0))]) hx hb dX0_before_8 rfl hl (by decide) rfl (fun ls hl => ?_)
  refine lv_aload_n hx hb dX0_before_9 rfl (lv_at hl 1 rfl) ?_
  refine lv_iload_n hx hb dX0_before_10 rfl (lv_at hl 0 rfl) ?_
  refine g_callVv (rest := []) C (c_X0_seek l D a d _ _ _ _ _ _ _ _ _ _ _ _ _ r_1 h) 59 RX0 (lw_V q104 q106 qs2 q23 q107) (na := 1) (by decide +kernel) rfl (by decide) 0 rfl rfl rfl hw hl.1 rfl (Nat.le_of_ble_eq_true rfl) ⟨Nat.le_refl _, Nat.le_refl _⟩ dX0_before_11 (fun u_2 H locs h hw => ?_)
  obtain ⟨lf_2, sl_2⟩ := u_2
  have hw : gSt D A s (gT a d dep sub lv siz ky va tot lf_2 sl_2 mk mv pk pv) H locs := hw
  refine lv_aload_n hx hb dX0_before_14 rfl (lv_at hl 1 rfl) ?_
  refine gt_get_sl C hw dX0_before_15 ?_
  refine lv_istore_n (lv' := [(2, .int sl_2), (1, .int r_1), (0, .ref (a 0))]) hx hb dX0_before_18 rfl hl (by decide) rfl (fun ls hl => ?_)
  refine lv_iconst (v := 0) hx hb dX0_before_19 (by decide) ?_
  refine lv_istore_n (lv' := [(3, .int 0), (2, .int sl_2), (1, .int r_1), (0, .ref (a 0))]) hx hb dX0_before_20 rfl hl (by decide) rfl (fun ls hl => ?_)
  obtain ⟨I3, μ3, h0_3, hI_3⟩ := h
  have loop_3 : ∀ (k : Nat) (x2_3 : Int32) (x3_3 : Int32) (H : Heap) (locs : List Loc) (ls : Array Slot), μ3 x2_3 x3_3 < k → I3 x2_3 x3_3 → gSt D A s (gT a d dep sub lv siz ky va tot lf_2 sl_2 mk mv pk pv) H locs → lv_has ls 4 [(0, .ref (a 0)), (2, .int x2_3), (3, .int x3_3)] → W p l e (gRm 2 43) s m args below meth c H locs 0 0 Q (F0 m 21 ls []) := by
    intro k
    induction k with
    | zero => intro x2_3 x3_3 H locs ls hk; exact absurd hk (Nat.not_lt_zero _)
    | succ k ih_3 =>
      intro x2_3 x3_3 H locs ls hk_3 hi hw hl
      have h := hI_3 x2_3 x3_3 hi
      refine lv_iload_n hx hb dX0_before_21 rfl (lv_at hl 2 rfl) ?_
      refine lv_aload_n hx hb dX0_before_22 rfl (lv_at hl 0 rfl) ?_
      refine gt_get_lf C hw dX0_before_23 ?_
      refine lv_icmp_ge (tgt := 44) hx hb dX0_before_26 (by decide) (fun c4 => ?_) (fun c4 => ?_)
      · have h := h.1 c4
        refine lv_iload_n hx hb dX0_before_44 rfl (lv_at hl 1 rfl) ?_
        exact ret x2_3 (lf_2, sl_2) _ _ _ _ h rfl hw dX0_before_45
      · have h := h.2 c4
        refine lv_iload_n hx hb dX0_before_29 rfl (lv_at hl 1 rfl) ?_
        refine lv_aload_n hx hb dX0_before_30 rfl (lv_at hl 0 rfl) ?_
        refine gt_get_siz C hw dX0_before_31 ?_
        refine lv_iload_n hx hb dX0_before_34 rfl (lv_at hl 2 rfl) ?_
        have b5 := h.1
        have h := h.2
        refine gt_ald_siz C hw b5 dX0_before_35 ?_
        refine lv_iadd hx hb dX0_before_36 ?_
        refine lv_istore_n (lv' := [(2, .int (x2_3 + (siz x3_3.toNatClampNeg))), (0, .ref (a 0)), (3, .int x3_3)]) hx hb dX0_before_37 rfl hl (by decide) rfl (fun ls hl => ?_)
        refine lv_iinc (v := (x3_3 + 1)) (lv' := [(3, .int (x3_3 + 1)), (2, .int (x2_3 + (siz x3_3.toNatClampNeg))), (0, .ref (a 0))]) hx hb dX0_before_38 hl (k := 2) rfl rfl (by decide) rfl (fun ls hl => ?_)
        refine lv_goto (tgt := 21) hx hb dX0_before_41 (by decide) ?_
        exact ih_3 _ _ _ _ _ (Nat.lt_of_lt_of_le h.2 (Nat.le_of_lt_succ hk_3)) h.1 hw (lv_sub hl [2, 1, 0] rfl)
  exact loop_3 _ _ _ _ _ _ (Nat.lt_succ_self _) h0_3 hw (lv_sub hl [3, 1, 0] rfl)
set_option maxHeartbeats 4000000 in
set_option maxRecDepth 100000 in
theorem c_X0_count (l : Launch) (D : va_G) (a : Nat → Nat) (d : ClassId) (dep : Int32) (sub : Nat → Int32) (lv : Int32) (siz : Nat → Int32) (ky : Nat → Int32) (va : Nat → Int32) (tot : Int32) (lf : Int32) (sl : Int32) (mk : Nat → Int32) (mv : Nat → Int32) (pk : Nat → Int32) (pv : Nat → Int32) {K : Int32 → Prop} (h : X0_count_w tot K) : CTi l yX0_count cX0_count 1 (some .int)  (gRm 0 0) D d [.ref (a 0)] (gT a d dep sub lv siz ky va tot lf sl mk mv pk pv) (S := Unit) (fun (r : Int32) (u : Unit) => K r) (fun u => gT a d dep sub lv siz ky va tot lf sl mk mv pk pv) := by
  refine gEnter_i (by decide) (Nat.le_of_ble_eq_true rfl) ?_
  intro p e s m args below meth c A Q ls C ret hl hw
  have C : gCx RX0 cX0_count 1 (some .int) D d A p s m args meth c := C
  have hx := C.1.1
  have hb := C.1.2.1
  have hown := C.1.2.2.2.1
  have hts := C.1.2.2.2.2
  have hl : lv_has ls 1 [(0, .ref (a 0))] := hl
  unfold X0_count_w at h
  refine lv_aload_n hx hb dX0_count_0 rfl (lv_at hl 0 rfl) ?_
  refine gt_get_tot C hw dX0_count_1 ?_
  exact ret tot () _ _ _ _ h rfl hw dX0_count_4
end
section
set_option maxHeartbeats 4000000 in
set_option maxRecDepth 100000 in
theorem c_X1_isSubscript (l : Launch) (D : va_G) (a : Nat → Nat) (d : ClassId) (li : Nat → Int32) (le : Nat → Int32) (vs : Nat → Int32) (nd : Int32) (po : Nat → Int32) (dp : Int32) (z1 : Int32) {K : Int32 → Prop} (h : X1_isSubscript_w z1 K) : CTi l yX1_isSubscript cX1_isSubscript 2 (some .boolean)  (gRm 0 0) D d [.ref (a 0), .int z1] (gM a d li le vs nd po dp) (S := Unit) (fun (r : Int32) (u : Unit) => K r) (fun u => gM a d li le vs nd po dp) := by
  refine gEnter_i (by decide) (Nat.le_of_ble_eq_true rfl) ?_
  intro p e s m args below meth c A Q ls C ret hl hw
  have C : gCx RX1 cX1_isSubscript 2 (some .boolean) D d A p s m args meth c := C
  have hx := C.1.1
  have hb := C.1.2.1
  have hown := C.1.2.2.2.1
  have hts := C.1.2.2.2.2
  have hl : lv_has ls 2 [(0, .ref (a 0)), (1, .int z1)] := hl
  unfold X1_isSubscript_w at h
  refine lv_iload_n hx hb dX1_isSubscript_0 rfl (lv_at hl 1 rfl) ?_
  refine lv_bipush (v := (-50)) hx hb dX1_isSubscript_1 (by decide) ?_
  refine lv_icmp_lt (tgt := 16) hx hb dX1_isSubscript_3 (by decide) (fun c1 => ?_) (fun c1 => ?_)
  · have h := h.1 c1
    refine lv_iconst (v := 0) hx hb dX1_isSubscript_16 (by decide) ?_
    exact ret 0 () _ _ _ _ h rfl hw dX1_isSubscript_17
  · have h := h.2 c1
    refine lv_iload_n hx hb dX1_isSubscript_6 rfl (lv_at hl 1 rfl) ?_
    refine lv_bipush (v := 50) hx hb dX1_isSubscript_7 (by decide) ?_
    refine lv_icmp_gt (tgt := 16) hx hb dX1_isSubscript_9 (by decide) (fun c2 => ?_) (fun c2 => ?_)
    · have h := h.1 c2
      refine lv_iconst (v := 0) hx hb dX1_isSubscript_16 (by decide) ?_
      exact ret 0 () _ _ _ _ h rfl hw dX1_isSubscript_17
    · have h := h.2 c2
      refine lv_iconst (v := 1) hx hb dX1_isSubscript_12 (by decide) ?_
      refine lv_goto (tgt := 17) hx hb dX1_isSubscript_13 (by decide) ?_
      exact ret 1 () _ _ _ _ h rfl hw dX1_isSubscript_17
set_option maxHeartbeats 4000000 in
set_option maxRecDepth 100000 in
theorem c_X1_down (l : Launch) (D : va_G) (a : Nat → Nat) (d : ClassId) (li : Nat → Int32) (le : Nat → Int32) (vs : Nat → Int32) (nd : Int32) (po : Nat → Int32) (dp : Int32) (z1 : Int32) {K : Int32 → (Nat → Int32) → Int32 → Prop} (h : X1_down_w po dp z1 K) : CTi l yX1_down cX1_down 2 (some .int)  (gRm 1 21) D d [.ref (a 0), .int z1] (gM a d li le vs nd po dp) (S := (Nat → Int32) × Int32) (fun (r : Int32) (u : (Nat → Int32) × Int32) => K r u.1 u.2) (fun u => gM a d li le vs nd u.1 u.2) := by
  refine gEnter_i (by decide) (Nat.le_of_ble_eq_true rfl) ?_
  intro p e s m args below meth c A Q ls C ret hl hw
  have C : gCx RX1 cX1_down 2 (some .int) D d A p s m args meth c := C
  have hx := C.1.1
  have hb := C.1.2.1
  have hown := C.1.2.2.2.1
  have hts := C.1.2.2.2.2
  have hl : lv_has ls 2 [(0, .ref (a 0)), (1, .int z1)] := hl
  unfold X1_down_w at h
  refine lv_aload_n hx hb dX1_down_0 rfl (lv_at hl 0 rfl) ?_
  refine lv_iload_n hx hb dX1_down_1 rfl (lv_at hl 1 rfl) ?_
  refine g_callVi (rest := []) C (c_X1_isSubscript l D a d _ _ _ _ _ _ z1 h) 22 RX1 (lw_V q229 q231 qs14 q24 q232) (na := 1) (by decide +kernel) rfl (by decide) 1 rfl rfl rfl hw hl.1 rfl (Nat.le_of_ble_eq_true rfl) ⟨Nat.le_refl _, Nat.le_refl _⟩ dX1_down_2 (fun r_1 u_1 H locs h hw => ?_)
  refine lv_if_ne (tgt := 10) hx hb dX1_down_5 (by decide) (fun c2 => ?_) (fun c2 => ?_)
  · have h := h.1 c2
    refine lv_aload_n hx hb dX1_down_10 rfl (lv_at hl 0 rfl) ?_
    refine gm_get_dp C hw dX1_down_11 ?_
    refine lv_iconst (v := 3) hx hb dX1_down_14 (by decide) ?_
    refine lv_icmp_ne (tgt := 21) hx hb dX1_down_15 (by decide) (fun c3 => ?_) (fun c3 => ?_)
    · have h := h.1 c3
      refine lv_aload_n hx hb dX1_down_21 rfl (lv_at hl 0 rfl) ?_
      refine gm_get_po C hw dX1_down_22 ?_
      refine lv_aload_n hx hb dX1_down_25 rfl (lv_at hl 0 rfl) ?_
      refine gm_get_dp C hw dX1_down_26 ?_
      refine lv_iload_n hx hb dX1_down_29 rfl (lv_at hl 1 rfl) ?_
      have b4 := h.1
      have h := h.2
      refine gm_ast_po C hw b4 dX1_down_30 (fun H locs hw => ?_)
      refine lv_aload_n hx hb dX1_down_31 rfl (lv_at hl 0 rfl) ?_
      refine lv_dup hx hb dX1_down_32 rfl ?_
      refine gm_get_dp C hw dX1_down_33 ?_
      refine lv_iconst (v := 1) hx hb dX1_down_36 (by decide) ?_
      refine lv_iadd hx hb dX1_down_37 ?_
      refine gm_put_dp C hw dX1_down_38 (fun H locs hw => ?_)
      refine lv_aload_n hx hb dX1_down_41 rfl (lv_at hl 0 rfl) ?_
      refine gm_get_dp C hw dX1_down_42 ?_
      exact ret (dp + 1) ((upd po dp.toNatClampNeg z1), (dp + 1)) _ _ _ _ h rfl hw dX1_down_45
    · have h := h.2 c3
      refine lv_bipush (v := (-2)) hx hb dX1_down_18 (by decide) ?_
      exact ret (-2) (po, dp) _ _ _ _ h rfl hw dX1_down_20
  · have h := h.2 c2
    refine lv_iconst (v := (-1)) hx hb dX1_down_8 (by decide) ?_
    exact ret (-1) (po, dp) _ _ _ _ h rfl hw dX1_down_9
set_option maxHeartbeats 4000000 in
set_option maxRecDepth 100000 in
theorem c_X1_up (l : Launch) (D : va_G) (a : Nat → Nat) (d : ClassId) (li : Nat → Int32) (le : Nat → Int32) (vs : Nat → Int32) (nd : Int32) (po : Nat → Int32) (dp : Int32) {K : Int32 → Int32 → Prop} (h : X1_up_w dp K) : CTi l yX1_up cX1_up 1 (some .int)  (gRm 0 0) D d [.ref (a 0)] (gM a d li le vs nd po dp) (S := Int32) (fun (r : Int32) (u : Int32) => K r u) (fun u => gM a d li le vs nd po u) := by
  refine gEnter_i (by decide) (Nat.le_of_ble_eq_true rfl) ?_
  intro p e s m args below meth c A Q ls C ret hl hw
  have C : gCx RX1 cX1_up 1 (some .int) D d A p s m args meth c := C
  have hx := C.1.1
  have hb := C.1.2.1
  have hown := C.1.2.2.2.1
  have hts := C.1.2.2.2.2
  have hl : lv_has ls 1 [(0, .ref (a 0))] := hl
  unfold X1_up_w at h
  refine lv_aload_n hx hb dX1_up_0 rfl (lv_at hl 0 rfl) ?_
  refine gm_get_dp C hw dX1_up_1 ?_
  refine lv_if_ne (tgt := 10) hx hb dX1_up_4 (by decide) (fun c1 => ?_) (fun c1 => ?_)
  · have h := h.1 c1
    refine lv_aload_n hx hb dX1_up_10 rfl (lv_at hl 0 rfl) ?_
    refine lv_dup hx hb dX1_up_11 rfl ?_
    refine gm_get_dp C hw dX1_up_12 ?_
    refine lv_iconst (v := 1) hx hb dX1_up_15 (by decide) ?_
    refine lv_isub hx hb dX1_up_16 ?_
    refine gm_put_dp C hw dX1_up_17 (fun H locs hw => ?_)
    refine lv_aload_n hx hb dX1_up_20 rfl (lv_at hl 0 rfl) ?_
    refine gm_get_dp C hw dX1_up_21 ?_
    exact ret (dp - 1) (dp - 1) _ _ _ _ h rfl hw dX1_up_24
  · have h := h.2 c1
    refine lv_bipush (v := (-3)) hx hb dX1_up_7 (by decide) ?_
    exact ret (-3) dp _ _ _ _ h rfl hw dX1_up_9
set_option maxHeartbeats 4000000 in
set_option maxRecDepth 100000 in
theorem c_X1_turn (l : Launch) (D : va_G) (a : Nat → Nat) (d : ClassId) (li : Nat → Int32) (le : Nat → Int32) (vs : Nat → Int32) (nd : Int32) (po : Nat → Int32) (dp : Int32) (z1 : Int32) {K : Int32 → (Nat → Int32) → Prop} (h : X1_turn_w po dp z1 K) : CTi l yX1_turn cX1_turn 3 (some .int)  (gRm 1 21) D d [.ref (a 0), .int z1] (gM a d li le vs nd po dp) (S := (Nat → Int32)) (fun (r : Int32) (u : (Nat → Int32)) => K r u) (fun u => gM a d li le vs nd u dp) := by
  refine gEnter_i (by decide) (Nat.le_of_ble_eq_true rfl) ?_
  intro p e s m args below meth c A Q ls C ret hl hw
  have C : gCx RX1 cX1_turn 3 (some .int) D d A p s m args meth c := C
  have hx := C.1.1
  have hb := C.1.2.1
  have hown := C.1.2.2.2.1
  have hts := C.1.2.2.2.2
  have hl : lv_has ls 3 [(0, .ref (a 0)), (1, .int z1)] := hl
  unfold X1_turn_w at h
  refine lv_aload_n hx hb dX1_turn_0 rfl (lv_at hl 0 rfl) ?_
  refine gm_get_dp C hw dX1_turn_1 ?_
  refine lv_if_ne (tgt := 10) hx hb dX1_turn_4 (by decide) (fun c1 => ?_) (fun c1 => ?_)
  · have h := h.1 c1
    refine lv_aload_n hx hb dX1_turn_10 rfl (lv_at hl 0 rfl) ?_
    refine lv_iload_n hx hb dX1_turn_11 rfl (lv_at hl 1 rfl) ?_
    refine g_callVi (rest := []) C (c_X1_isSubscript l D a d _ _ _ _ _ _ z1 h) 22 RX1 (lw_V q229 q231 qs14 q24 q232) (na := 1) (by decide +kernel) rfl (by decide) 1 rfl rfl rfl hw hl.1 rfl (Nat.le_of_ble_eq_true rfl) ⟨Nat.le_refl _, Nat.le_refl _⟩ dX1_turn_12 (fun r_2 u_2 H locs h hw => ?_)
    refine lv_if_ne (tgt := 20) hx hb dX1_turn_15 (by decide) (fun c3 => ?_) (fun c3 => ?_)
    · have h := h.1 c3
      refine lv_aload_n hx hb dX1_turn_20 rfl (lv_at hl 0 rfl) ?_
      refine gm_get_po C hw dX1_turn_21 ?_
      refine lv_aload_n hx hb dX1_turn_24 rfl (lv_at hl 0 rfl) ?_
      refine gm_get_dp C hw dX1_turn_25 ?_
      refine lv_iconst (v := 1) hx hb dX1_turn_28 (by decide) ?_
      refine lv_isub hx hb dX1_turn_29 ?_
      have b4 := h.1
      have h := h.2
      refine gm_ald_po C hw b4 dX1_turn_30 ?_
      refine lv_istore_n (lv' := [(2, .int (po (dp - 1).toNatClampNeg)), (0, .ref (a 0)), (1, .int z1)]) hx hb dX1_turn_31 rfl hl (by decide) rfl (fun ls hl => ?_)
      refine lv_aload_n hx hb dX1_turn_32 rfl (lv_at hl 1 rfl) ?_
      refine gm_get_po C hw dX1_turn_33 ?_
      refine lv_aload_n hx hb dX1_turn_36 rfl (lv_at hl 1 rfl) ?_
      refine gm_get_dp C hw dX1_turn_37 ?_
      refine lv_iconst (v := 1) hx hb dX1_turn_40 (by decide) ?_
      refine lv_isub hx hb dX1_turn_41 ?_
      refine lv_iload_n hx hb dX1_turn_42 rfl (lv_at hl 2 rfl) ?_
      have b5 := h.1
      have h := h.2
      refine gm_ast_po C hw b5 dX1_turn_43 (fun H locs hw => ?_)
      refine lv_iload_n hx hb dX1_turn_44 rfl (lv_at hl 0 rfl) ?_
      exact ret (po (dp - 1).toNatClampNeg) (upd po (dp - 1).toNatClampNeg z1) _ _ _ _ h rfl hw dX1_turn_45
    · have h := h.2 c3
      refine lv_iconst (v := (-1)) hx hb dX1_turn_18 (by decide) ?_
      exact ret (-1) po _ _ _ _ h rfl hw dX1_turn_19
  · have h := h.2 c1
    refine lv_bipush (v := (-3)) hx hb dX1_turn_7 (by decide) ?_
    exact ret (-3) po _ _ _ _ h rfl hw dX1_turn_9
set_option maxHeartbeats 4000000 in
set_option maxRecDepth 100000 in
theorem c_X1_begins (l : Launch) (D : va_G) (a : Nat → Nat) (d : ClassId) (li : Nat → Int32) (le : Nat → Int32) (vs : Nat → Int32) (nd : Int32) (po : Nat → Int32) (dp : Int32) (z1 : Int32) (z2 : Int32) {K : Int32 → Prop} (h : X1_begins_w li le po z1 z2 K) : CTi l yX1_begins cX1_begins 4 (some .boolean)  (gRm 0 0) D d [.ref (a 0), .int z1, .int z2] (gM a d li le vs nd po dp) (S := Unit) (fun (r : Int32) (u : Unit) => K r) (fun u => gM a d li le vs nd po dp) := by
  refine gEnter_i (by decide) (Nat.le_of_ble_eq_true rfl) ?_
  intro p e s m args below meth c A Q ls C ret hl hw
  have C : gCx RX1 cX1_begins 4 (some .boolean) D d A p s m args meth c := C
  have hx := C.1.1
  have hb := C.1.2.1
  have hown := C.1.2.2.2.1
  have hts := C.1.2.2.2.2
  have hl : lv_has ls 4 [(0, .ref (a 0)), (1, .int z1), (2, .int z2)] := hl
  unfold X1_begins_w at h
  refine lv_aload_n hx hb dX1_begins_0 rfl (lv_at hl 0 rfl) ?_
  refine gm_get_le C hw dX1_begins_1 ?_
  refine lv_iload_n hx hb dX1_begins_4 rfl (lv_at hl 1 rfl) ?_
  have b1 := h.1
  have h := h.2
  refine gm_ald_le C hw b1 dX1_begins_5 ?_
  refine lv_iload_n hx hb dX1_begins_6 rfl (lv_at hl 2 rfl) ?_
  refine lv_icmp_ge (tgt := 12) hx hb dX1_begins_7 (by decide) (fun c2 => ?_) (fun c2 => ?_)
  · have h := h.1 c2
    refine lv_iconst (v := 0) hx hb dX1_begins_12 (by decide) ?_
    refine lv_istore_n (lv' := [(3, .int 0), (0, .ref (a 0)), (1, .int z1), (2, .int z2)]) hx hb dX1_begins_13 rfl hl (by decide) rfl (fun ls hl => ?_)
    obtain ⟨I3, μ3, h0_3, hI_3⟩ := h
    have loop_3 : ∀ (k : Nat) (x3_3 : Int32) (H : Heap) (locs : List Loc) (ls : Array Slot), μ3 x3_3 < k → I3 x3_3 → gSt D A s (gM a d li le vs nd po dp) H locs → lv_has ls 4 [(0, .ref (a 0)), (1, .int z1), (2, .int z2), (3, .int x3_3)] → W p l e (gRm 0 0) s m args below meth c H locs 0 0 Q (F0 m 14 ls []) := by
      intro k
      induction k with
      | zero => intro x3_3 H locs ls hk; exact absurd hk (Nat.not_lt_zero _)
      | succ k ih_3 =>
        intro x3_3 H locs ls hk_3 hi hw hl
        have h := hI_3 x3_3 hi
        refine lv_iload_n hx hb dX1_begins_14 rfl (lv_at hl 3 rfl) ?_
        refine lv_iload_n hx hb dX1_begins_15 rfl (lv_at hl 2 rfl) ?_
        refine lv_icmp_ge (tgt := 46) hx hb dX1_begins_16 (by decide) (fun c4 => ?_) (fun c4 => ?_)
        · have h := h.1 c4
          refine lv_iconst (v := 1) hx hb dX1_begins_46 (by decide) ?_
          exact ret 1 () _ _ _ _ h rfl hw dX1_begins_47
        · have h := h.2 c4
          refine lv_aload_n hx hb dX1_begins_19 rfl (lv_at hl 0 rfl) ?_
          refine gm_get_li C hw dX1_begins_20 ?_
          refine lv_iload_n hx hb dX1_begins_23 rfl (lv_at hl 1 rfl) ?_
          refine lv_iconst (v := 3) hx hb dX1_begins_24 (by decide) ?_
          refine lv_imul hx hb dX1_begins_25 ?_
          refine lv_iload_n hx hb dX1_begins_26 rfl (lv_at hl 3 rfl) ?_
          refine lv_iadd hx hb dX1_begins_27 ?_
          have b5 := h.1
          have h := h.2
          refine gm_ald_li C hw b5 dX1_begins_28 ?_
          refine lv_aload_n hx hb dX1_begins_29 rfl (lv_at hl 0 rfl) ?_
          refine gm_get_po C hw dX1_begins_30 ?_
          refine lv_iload_n hx hb dX1_begins_33 rfl (lv_at hl 3 rfl) ?_
          have b6 := h.1
          have h := h.2
          refine gm_ald_po C hw b6 dX1_begins_34 ?_
          refine lv_icmp_eq (tgt := 40) hx hb dX1_begins_35 (by decide) (fun c7 => ?_) (fun c7 => ?_)
          · have h := h.1 c7
            refine lv_iinc (v := (x3_3 + 1)) (lv' := [(3, .int (x3_3 + 1)), (0, .ref (a 0)), (1, .int z1), (2, .int z2)]) hx hb dX1_begins_40 hl (k := 3) rfl rfl (by decide) rfl (fun ls hl => ?_)
            refine lv_goto (tgt := 14) hx hb dX1_begins_43 (by decide) ?_
            exact ih_3 _ _ _ _ (Nat.lt_of_lt_of_le h.2 (Nat.le_of_lt_succ hk_3)) h.1 hw (lv_sub hl [1, 2, 3, 0] rfl)
          · have h := h.2 c7
            refine lv_iconst (v := 0) hx hb dX1_begins_38 (by decide) ?_
            exact ret 0 () _ _ _ _ h rfl hw dX1_begins_39
    exact loop_3 _ _ _ _ _ (Nat.lt_succ_self _) h0_3 hw (lv_sub hl [1, 2, 3, 0] rfl)
  · have h := h.2 c2
    refine lv_iconst (v := 0) hx hb dX1_begins_10 (by decide) ?_
    exact ret 0 () _ _ _ _ h rfl hw dX1_begins_11
set_option maxHeartbeats 4000000 in
set_option maxRecDepth 100000 in
theorem c_X1_here (l : Launch) (D : va_G) (a : Nat → Nat) (d : ClassId) (li : Nat → Int32) (le : Nat → Int32) (vs : Nat → Int32) (nd : Int32) (po : Nat → Int32) (dp : Int32) {K : Int32 → Prop} (h : X1_here_w li le nd po dp K) : CTi l yX1_here cX1_here 2 (some .int)  (gRm 1 23) D d [.ref (a 0)] (gM a d li le vs nd po dp) (S := Unit) (fun (r : Int32) (u : Unit) => K r) (fun u => gM a d li le vs nd po dp) := by
  refine gEnter_i (by decide) (Nat.le_of_ble_eq_true rfl) ?_
  intro p e s m args below meth c A Q ls C ret hl hw
  have C : gCx RX1 cX1_here 2 (some .int) D d A p s m args meth c := C
  have hx := C.1.1
  have hb := C.1.2.1
  have hown := C.1.2.2.2.1
  have hts := C.1.2.2.2.2
  have hl : lv_has ls 2 [(0, .ref (a 0))] := hl
  unfold X1_here_w at h
  refine lv_iconst (v := 0) hx hb dX1_here_0 (by decide) ?_
  refine lv_istore_n (lv' := [(1, .int 0), (0, .ref (a 0))]) hx hb dX1_here_1 rfl hl (by decide) rfl (fun ls hl => ?_)
  obtain ⟨I1, μ1, h0_1, hI_1⟩ := h
  have loop_1 : ∀ (k : Nat) (x1_1 : Int32) (H : Heap) (locs : List Loc) (ls : Array Slot), μ1 x1_1 < k → I1 x1_1 → gSt D A s (gM a d li le vs nd po dp) H locs → lv_has ls 2 [(0, .ref (a 0)), (1, .int x1_1)] → W p l e (gRm 1 23) s m args below meth c H locs 0 0 Q (F0 m 2 ls []) := by
    intro k
    induction k with
    | zero => intro x1_1 H locs ls hk; exact absurd hk (Nat.not_lt_zero _)
    | succ k ih_1 =>
      intro x1_1 H locs ls hk_1 hi hw hl
      have h := hI_1 x1_1 hi
      refine lv_iload_n hx hb dX1_here_2 rfl (lv_at hl 1 rfl) ?_
      refine lv_aload_n hx hb dX1_here_3 rfl (lv_at hl 0 rfl) ?_
      refine gm_get_nd C hw dX1_here_4 ?_
      refine lv_icmp_ge (tgt := 43) hx hb dX1_here_7 (by decide) (fun c2 => ?_) (fun c2 => ?_)
      · have h := h.1 c2
        refine lv_iconst (v := (-1)) hx hb dX1_here_43 (by decide) ?_
        exact ret (-1) () _ _ _ _ h rfl hw dX1_here_44
      · have h := h.2 c2
        refine lv_aload_n hx hb dX1_here_10 rfl (lv_at hl 0 rfl) ?_
        refine gm_get_le C hw dX1_here_11 ?_
        refine lv_iload_n hx hb dX1_here_14 rfl (lv_at hl 1 rfl) ?_
        have b3 := h.1
        have h := h.2
        refine gm_ald_le C hw b3 dX1_here_15 ?_
        refine lv_aload_n hx hb dX1_here_16 rfl (lv_at hl 0 rfl) ?_
        refine gm_get_dp C hw dX1_here_17 ?_
        refine lv_icmp_ne (tgt := 37) hx hb dX1_here_20 (by decide) (fun c4 => ?_) (fun c4 => ?_)
        · have h := h.1 c4
          refine lv_iinc (v := (x1_1 + 1)) (lv' := [(1, .int (x1_1 + 1)), (0, .ref (a 0))]) hx hb dX1_here_37 hl (k := 1) rfl rfl (by decide) rfl (fun ls hl => ?_)
          refine lv_goto (tgt := 2) hx hb dX1_here_40 (by decide) ?_
          exact ih_1 _ _ _ _ (Nat.lt_of_lt_of_le h.2 (Nat.le_of_lt_succ hk_1)) h.1 hw (lv_sub hl [1, 0] rfl)
        · have h := h.2 c4
          refine lv_aload_n hx hb dX1_here_23 rfl (lv_at hl 0 rfl) ?_
          refine lv_iload_n hx hb dX1_here_24 rfl (lv_at hl 1 rfl) ?_
          refine lv_aload_n hx hb dX1_here_25 rfl (lv_at hl 0 rfl) ?_
          refine gm_get_dp C hw dX1_here_26 ?_
          refine g_callVi (rest := []) C (c_X1_begins l D a d _ _ _ _ _ _ x1_1 dp h) 33 RX1 (lw_V q249 q251 qs16 q24 q252) (na := 2) (by decide +kernel) rfl (by decide) 1 rfl rfl rfl hw hl.1 rfl (Nat.le_of_ble_eq_true rfl) ⟨Nat.le_refl _, Nat.le_refl _⟩ dX1_here_29 (fun r_5 u_5 H locs h hw => ?_)
          refine lv_if_eq (tgt := 37) hx hb dX1_here_32 (by decide) (fun c6 => ?_) (fun c6 => ?_)
          · have h := h.1 c6
            refine lv_iinc (v := (x1_1 + 1)) (lv' := [(1, .int (x1_1 + 1)), (0, .ref (a 0))]) hx hb dX1_here_37 hl (k := 1) rfl rfl (by decide) rfl (fun ls hl => ?_)
            refine lv_goto (tgt := 2) hx hb dX1_here_40 (by decide) ?_
            exact ih_1 _ _ _ _ (Nat.lt_of_lt_of_le h.2 (Nat.le_of_lt_succ hk_1)) h.1 hw (lv_sub hl [1, 0] rfl)
          · have h := h.2 c6
            refine lv_iload_n hx hb dX1_here_35 rfl (lv_at hl 1 rfl) ?_
            exact ret x1_1 () _ _ _ _ h rfl hw dX1_here_36
  exact loop_1 _ _ _ _ _ (Nat.lt_succ_self _) h0_1 hw (lv_sub hl [1, 0] rfl)
set_option maxHeartbeats 4000000 in
set_option maxRecDepth 100000 in
theorem c_X1_set (l : Launch) (D : va_G) (a : Nat → Nat) (d : ClassId) (li : Nat → Int32) (le : Nat → Int32) (vs : Nat → Int32) (nd : Int32) (po : Nat → Int32) (dp : Int32) (z1 : Int32) {K : Int32 → (Nat → Int32) → (Nat → Int32) → (Nat → Int32) → Int32 → Prop} (h : X1_set_w li le vs nd po dp z1 K) : CTi l yX1_set cX1_set 4 (some .int)  (gRm 2 44) D d [.ref (a 0), .int z1] (gM a d li le vs nd po dp) (S := (Nat → Int32) × (Nat → Int32) × (Nat → Int32) × Int32) (fun (r : Int32) (u : (Nat → Int32) × (Nat → Int32) × (Nat → Int32) × Int32) => K r u.1 u.2.1 u.2.2.1 u.2.2.2) (fun u => gM a d u.1 u.2.1 u.2.2.1 u.2.2.2 po dp) := by
  refine gEnter_i (by decide) (Nat.le_of_ble_eq_true rfl) ?_
  intro p e s m args below meth c A Q ls C ret hl hw
  have C : gCx RX1 cX1_set 4 (some .int) D d A p s m args meth c := C
  have hx := C.1.1
  have hb := C.1.2.1
  have hown := C.1.2.2.2.1
  have hts := C.1.2.2.2.2
  have hl : lv_has ls 4 [(0, .ref (a 0)), (1, .int z1)] := hl
  unfold X1_set_w at h
  refine lv_aload_n hx hb dX1_set_0 rfl (lv_at hl 0 rfl) ?_
  refine gm_get_dp C hw dX1_set_1 ?_
  refine lv_if_ne (tgt := 10) hx hb dX1_set_4 (by decide) (fun c1 => ?_) (fun c1 => ?_)
  · have h := h.1 c1
    refine lv_aload_n hx hb dX1_set_10 rfl (lv_at hl 0 rfl) ?_
    refine g_callVi (rest := []) C (c_X1_here l D a d _ _ _ _ _ _  h) 37 RX1 (lw_V q245 q247 qs15 q24 q248) (na := 0) (by decide +kernel) rfl (by decide) 1 rfl rfl rfl hw hl.1 rfl (Nat.le_of_ble_eq_true rfl) ⟨Nat.le_refl _, Nat.le_refl _⟩ dX1_set_11 (fun r_2 u_2 H locs h hw => ?_)
    refine lv_istore_n (lv' := [(2, .int r_2), (0, .ref (a 0)), (1, .int z1)]) hx hb dX1_set_14 rfl hl (by decide) rfl (fun ls hl => ?_)
    obtain ⟨J3, hJ_3, h⟩ := h
    have join_3 : ∀  (H : Heap) (locs : List Loc) (ls : Array Slot), J3  → gSt D A s (gM a d li le vs nd po dp) H locs → lv_has ls 4 [(0, .ref (a 0)), (1, .int z1), (2, .int r_2)] → W p l e (gRm 2 44) s m args below meth c H locs 0 0 Q (F0 m 31 ls []) := by
      intro  H locs ls hi hw hl
      have h := hJ_3  hi
      refine lv_iload_n hx hb dX1_set_31 rfl (lv_at hl 2 rfl) ?_
      refine lv_if_lt (tgt := 44) hx hb dX1_set_32 (by decide) (fun c4 => ?_) (fun c4 => ?_)
      · have h := h.1 c4
        refine lv_iconst (v := 0) hx hb dX1_set_44 (by decide) ?_
        refine lv_istore_n (lv' := [(3, .int 0), (0, .ref (a 0)), (1, .int z1), (2, .int r_2)]) hx hb dX1_set_45 rfl hl (by decide) rfl (fun ls hl => ?_)
        obtain ⟨I5, μ5, h0_5, hI_5⟩ := h
        have loop_5 : ∀ (k : Nat) (x3_5 : Int32) (li_5 : Nat → Int32) (H : Heap) (locs : List Loc) (ls : Array Slot), μ5 x3_5 li_5 < k → I5 x3_5 li_5 → gSt D A s (gM a d li_5 le vs nd po dp) H locs → lv_has ls 4 [(0, .ref (a 0)), (1, .int z1), (3, .int x3_5)] → W p l e (gRm 2 44) s m args below meth c H locs 0 0 Q (F0 m 46 ls []) := by
          intro k
          induction k with
          | zero => intro x3_5 li_5 H locs ls hk; exact absurd hk (Nat.not_lt_zero _)
          | succ k ih_5 =>
            intro x3_5 li_5 H locs ls hk_5 hi hw hl
            have h := hI_5 x3_5 li_5 hi
            refine lv_iload_n hx hb dX1_set_46 rfl (lv_at hl 2 rfl) ?_
            refine lv_aload_n hx hb dX1_set_47 rfl (lv_at hl 0 rfl) ?_
            refine gm_get_dp C hw dX1_set_48 ?_
            refine lv_icmp_ge (tgt := 79) hx hb dX1_set_51 (by decide) (fun c6 => ?_) (fun c6 => ?_)
            · have h := h.1 c6
              refine lv_aload_n hx hb dX1_set_79 rfl (lv_at hl 0 rfl) ?_
              refine gm_get_le C hw dX1_set_80 ?_
              refine lv_aload_n hx hb dX1_set_83 rfl (lv_at hl 0 rfl) ?_
              refine gm_get_nd C hw dX1_set_84 ?_
              refine lv_aload_n hx hb dX1_set_87 rfl (lv_at hl 0 rfl) ?_
              refine gm_get_dp C hw dX1_set_88 ?_
              have b7 := h.1
              have h := h.2
              refine gm_ast_le C hw b7 dX1_set_91 (fun H locs hw => ?_)
              refine lv_aload_n hx hb dX1_set_92 rfl (lv_at hl 0 rfl) ?_
              refine gm_get_vs C hw dX1_set_93 ?_
              refine lv_aload_n hx hb dX1_set_96 rfl (lv_at hl 0 rfl) ?_
              refine gm_get_nd C hw dX1_set_97 ?_
              refine lv_iload_n hx hb dX1_set_100 rfl (lv_at hl 1 rfl) ?_
              have b8 := h.1
              have h := h.2
              refine gm_ast_vs C hw b8 dX1_set_101 (fun H locs hw => ?_)
              refine lv_aload_n hx hb dX1_set_102 rfl (lv_at hl 0 rfl) ?_
              refine lv_dup hx hb dX1_set_103 rfl ?_
              refine gm_get_nd C hw dX1_set_104 ?_
              refine lv_iconst (v := 1) hx hb dX1_set_107 (by decide) ?_
              refine lv_iadd hx hb dX1_set_108 ?_
              refine gm_put_nd C hw dX1_set_109 (fun H locs hw => ?_)
              refine lv_iconst (v := 0) hx hb dX1_set_112 (by decide) ?_
              exact ret 0 (li_5, (upd le nd.toNatClampNeg dp), (upd vs nd.toNatClampNeg z1), (nd + 1)) _ _ _ _ h rfl hw dX1_set_113
            · have h := h.2 c6
              refine lv_aload_n hx hb dX1_set_54 rfl (lv_at hl 0 rfl) ?_
              refine gm_get_li C hw dX1_set_55 ?_
              refine lv_aload_n hx hb dX1_set_58 rfl (lv_at hl 0 rfl) ?_
              refine gm_get_nd C hw dX1_set_59 ?_
              refine lv_iconst (v := 3) hx hb dX1_set_62 (by decide) ?_
              refine lv_imul hx hb dX1_set_63 ?_
              refine lv_iload_n hx hb dX1_set_64 rfl (lv_at hl 2 rfl) ?_
              refine lv_iadd hx hb dX1_set_65 ?_
              refine lv_aload_n hx hb dX1_set_66 rfl (lv_at hl 0 rfl) ?_
              refine gm_get_po C hw dX1_set_67 ?_
              refine lv_iload_n hx hb dX1_set_70 rfl (lv_at hl 2 rfl) ?_
              have b9 := h.1
              have h := h.2
              refine gm_ald_po C hw b9 dX1_set_71 ?_
              have b10 := h.1
              have h := h.2
              refine gm_ast_li C hw b10 dX1_set_72 (fun H locs hw => ?_)
              refine lv_iinc (v := (x3_5 + 1)) (lv' := [(3, .int (x3_5 + 1)), (0, .ref (a 0)), (1, .int z1)]) hx hb dX1_set_73 hl (k := 2) rfl rfl (by decide) rfl (fun ls hl => ?_)
              refine lv_goto (tgt := 46) hx hb dX1_set_76 (by decide) ?_
              exact ih_5 _ _ _ _ _ (Nat.lt_of_lt_of_le h.2 (Nat.le_of_lt_succ hk_5)) h.1 hw (lv_sub hl [1, 2, 0] rfl)
        exact loop_5 _ _ _ _ _ _ (Nat.lt_succ_self _) h0_5 hw (lv_sub hl [1, 2, 0] rfl)
      · have h := h.2 c4
        refine lv_aload_n hx hb dX1_set_35 rfl (lv_at hl 0 rfl) ?_
        refine gm_get_vs C hw dX1_set_36 ?_
        refine lv_iload_n hx hb dX1_set_39 rfl (lv_at hl 2 rfl) ?_
        refine lv_iload_n hx hb dX1_set_40 rfl (lv_at hl 1 rfl) ?_
        have b11 := h.1
        have h := h.2
        refine gm_ast_vs C hw b11 dX1_set_41 (fun H locs hw => ?_)
        refine lv_iconst (v := 1) hx hb dX1_set_42 (by decide) ?_
        exact ret 1 (li, le, (upd vs r_2.toNatClampNeg z1), nd) _ _ _ _ h rfl hw dX1_set_43
    refine lv_iload_n hx hb dX1_set_15 rfl (lv_at hl 0 rfl) ?_
    refine lv_if_ge (tgt := 31) hx hb dX1_set_16 (by decide) (fun c12 => ?_) (fun c12 => ?_)
    · have h := h.1 c12
      exact join_3  _ _ _ h hw (lv_sub hl [1, 2, 0] rfl)
    · have h := h.2 c12
      refine lv_aload_n hx hb dX1_set_19 rfl (lv_at hl 1 rfl) ?_
      refine gm_get_nd C hw dX1_set_20 ?_
      refine lv_bipush (v := 60) hx hb dX1_set_23 (by decide) ?_
      refine lv_icmp_ne (tgt := 31) hx hb dX1_set_25 (by decide) (fun c13 => ?_) (fun c13 => ?_)
      · have h := h.1 c13
        exact join_3  _ _ _ h hw (lv_sub hl [1, 2, 0] rfl)
      · have h := h.2 c13
        refine lv_bipush (v := (-2)) hx hb dX1_set_28 (by decide) ?_
        exact ret (-2) (li, le, vs, nd) _ _ _ _ h rfl hw dX1_set_30
  · have h := h.2 c1
    refine lv_bipush (v := (-3)) hx hb dX1_set_7 (by decide) ?_
    exact ret (-3) (li, le, vs, nd) _ _ _ _ h rfl hw dX1_set_9
set_option maxHeartbeats 4000000 in
set_option maxRecDepth 100000 in
theorem c_X1_value (l : Launch) (D : va_G) (a : Nat → Nat) (d : ClassId) (li : Nat → Int32) (le : Nat → Int32) (vs : Nat → Int32) (nd : Int32) (po : Nat → Int32) (dp : Int32) {K : Int32 → Prop} (h : X1_value_w li le vs nd po dp K) : CTi l yX1_value cX1_value 2 (some .int)  (gRm 2 44) D d [.ref (a 0)] (gM a d li le vs nd po dp) (S := Unit) (fun (r : Int32) (u : Unit) => K r) (fun u => gM a d li le vs nd po dp) := by
  refine gEnter_i (by decide) (Nat.le_of_ble_eq_true rfl) ?_
  intro p e s m args below meth c A Q ls C ret hl hw
  have C : gCx RX1 cX1_value 2 (some .int) D d A p s m args meth c := C
  have hx := C.1.1
  have hb := C.1.2.1
  have hown := C.1.2.2.2.1
  have hts := C.1.2.2.2.2
  have hl : lv_has ls 2 [(0, .ref (a 0))] := hl
  unfold X1_value_w at h
  refine lv_aload_n hx hb dX1_value_0 rfl (lv_at hl 0 rfl) ?_
  refine g_callVi (rest := []) C (c_X1_here l D a d _ _ _ _ _ _  h) 37 RX1 (lw_V q245 q247 qs15 q24 q248) (na := 0) (by decide +kernel) rfl (by decide) 1 rfl rfl rfl hw hl.1 rfl (Nat.le_of_ble_eq_true rfl) ⟨Nat.le_refl _, Nat.le_refl _⟩ dX1_value_1 (fun r_1 u_1 H locs h hw => ?_)
  refine lv_istore_n (lv' := [(1, .int r_1), (0, .ref (a 0))]) hx hb dX1_value_4 rfl hl (by decide) rfl (fun ls hl => ?_)
  refine lv_iload_n hx hb dX1_value_5 rfl (lv_at hl 0 rfl) ?_
  refine lv_if_ge (tgt := 13) hx hb dX1_value_6 (by decide) (fun c2 => ?_) (fun c2 => ?_)
  · have h := h.1 c2
    refine lv_aload_n hx hb dX1_value_13 rfl (lv_at hl 1 rfl) ?_
    refine gm_get_vs C hw dX1_value_14 ?_
    refine lv_iload_n hx hb dX1_value_17 rfl (lv_at hl 0 rfl) ?_
    have b3 := h.1
    have h := h.2
    refine gm_ald_vs C hw b3 dX1_value_18 ?_
    exact ret (vs r_1.toNatClampNeg) () _ _ _ _ h rfl hw dX1_value_19
  · have h := h.2 c2
    refine lv_iconst (v := 0) hx hb dX1_value_9 (by decide) ?_
    refine lv_goto (tgt := 19) hx hb dX1_value_10 (by decide) ?_
    exact ret 0 () _ _ _ _ h rfl hw dX1_value_19
set_option maxHeartbeats 4000000 in
set_option maxRecDepth 100000 in
theorem c_X1_increment (l : Launch) (D : va_G) (a : Nat → Nat) (d : ClassId) (li : Nat → Int32) (le : Nat → Int32) (vs : Nat → Int32) (nd : Int32) (po : Nat → Int32) (dp : Int32) (z1 : Int32) {K : Int32 → (Nat → Int32) → (Nat → Int32) → (Nat → Int32) → Int32 → Prop} (h : X1_increment_w li le vs nd po dp z1 K) : CTi l yX1_increment cX1_increment 4 (some .int)  (gRm 3 67) D d [.ref (a 0), .int z1] (gM a d li le vs nd po dp) (S := (Nat → Int32) × (Nat → Int32) × (Nat → Int32) × Int32) (fun (r : Int32) (u : (Nat → Int32) × (Nat → Int32) × (Nat → Int32) × Int32) => K r u.1 u.2.1 u.2.2.1 u.2.2.2) (fun u => gM a d u.1 u.2.1 u.2.2.1 u.2.2.2 po dp) := by
  refine gEnter_i (by decide) (Nat.le_of_ble_eq_true rfl) ?_
  intro p e s m args below meth c A Q ls C ret hl hw
  have C : gCx RX1 cX1_increment 4 (some .int) D d A p s m args meth c := C
  have hx := C.1.1
  have hb := C.1.2.1
  have hown := C.1.2.2.2.1
  have hts := C.1.2.2.2.2
  have hl : lv_has ls 4 [(0, .ref (a 0)), (1, .int z1)] := hl
  unfold X1_increment_w at h
  refine lv_aload_n hx hb dX1_increment_0 rfl (lv_at hl 0 rfl) ?_
  refine g_callVi (rest := []) C (c_X1_value l D a d _ _ _ _ _ _  h) 41 RX1 (lw_V q257 q258 q259 q24 q260) (na := 0) (by decide +kernel) rfl (by decide) 1 rfl rfl rfl hw hl.1 rfl (Nat.le_of_ble_eq_true rfl) ⟨Nat.le_refl _, Nat.le_refl _⟩ dX1_increment_1 (fun r_1 u_1 H locs h hw => ?_)
  refine lv_iload_n hx hb dX1_increment_4 rfl (lv_at hl 1 rfl) ?_
  refine lv_iadd hx hb dX1_increment_5 ?_
  refine lv_istore_n (lv' := [(2, .int (r_1 + z1)), (0, .ref (a 0)), (1, .int z1)]) hx hb dX1_increment_6 rfl hl (by decide) rfl (fun ls hl => ?_)
  refine lv_aload_n hx hb dX1_increment_7 rfl (lv_at hl 1 rfl) ?_
  refine lv_iload_n hx hb dX1_increment_8 rfl (lv_at hl 0 rfl) ?_
  refine g_callVi (rest := []) C (c_X1_set l D a d _ _ _ _ _ _ (r_1 + z1) h) 44 RX1 (lw_V q261 q242 q243 q24 q244) (na := 1) (by decide +kernel) rfl (by decide) 1 rfl rfl rfl hw hl.1 rfl (Nat.le_of_ble_eq_true rfl) ⟨Nat.le_refl _, Nat.le_refl _⟩ dX1_increment_9 (fun r_2 u_2 H locs h hw => ?_)
  obtain ⟨li_2, le_2, vs_2, nd_2⟩ := u_2
  have hw : gSt D A s (gM a d li_2 le_2 vs_2 nd_2 po dp) H locs := hw
  refine lv_istore_n (lv' := [(3, .int r_2), (2, .int (r_1 + z1)), (0, .ref (a 0)), (1, .int z1)]) hx hb dX1_increment_12 rfl hl (by decide) rfl (fun ls hl => ?_)
  refine lv_iload_n hx hb dX1_increment_13 rfl (lv_at hl 0 rfl) ?_
  refine lv_if_ge (tgt := 21) hx hb dX1_increment_14 (by decide) (fun c3 => ?_) (fun c3 => ?_)
  · have h := h.1 c3
    refine lv_iload_n hx hb dX1_increment_21 rfl (lv_at hl 1 rfl) ?_
    exact ret (r_1 + z1) (li_2, le_2, vs_2, nd_2) _ _ _ _ h rfl hw dX1_increment_22
  · have h := h.2 c3
    refine lv_iload_n hx hb dX1_increment_17 rfl (lv_at hl 0 rfl) ?_
    refine lv_goto (tgt := 22) hx hb dX1_increment_18 (by decide) ?_
    exact ret r_2 (li_2, le_2, vs_2, nd_2) _ _ _ _ h rfl hw dX1_increment_22
set_option maxHeartbeats 4000000 in
set_option maxRecDepth 100000 in
theorem c_X1_kill (l : Launch) (D : va_G) (a : Nat → Nat) (d : ClassId) (li : Nat → Int32) (le : Nat → Int32) (vs : Nat → Int32) (nd : Int32) (po : Nat → Int32) (dp : Int32) {K : Int32 → (Nat → Int32) → (Nat → Int32) → (Nat → Int32) → Int32 → Prop} (h : X1_kill_w li le vs nd po dp K) : CTi l yX1_kill cX1_kill 4 (some .int)  (gRm 1 23) D d [.ref (a 0)] (gM a d li le vs nd po dp) (S := (Nat → Int32) × (Nat → Int32) × (Nat → Int32) × Int32) (fun (r : Int32) (u : (Nat → Int32) × (Nat → Int32) × (Nat → Int32) × Int32) => K r u.1 u.2.1 u.2.2.1 u.2.2.2) (fun u => gM a d u.1 u.2.1 u.2.2.1 u.2.2.2 po dp) := by
  refine gEnter_i (by decide) (Nat.le_of_ble_eq_true rfl) ?_
  intro p e s m args below meth c A Q ls C ret hl hw
  have C : gCx RX1 cX1_kill 4 (some .int) D d A p s m args meth c := C
  have hx := C.1.1
  have hb := C.1.2.1
  have hown := C.1.2.2.2.1
  have hts := C.1.2.2.2.2
  have hl : lv_has ls 4 [(0, .ref (a 0))] := hl
  unfold X1_kill_w at h
  refine lv_iconst (v := 0) hx hb dX1_kill_0 (by decide) ?_
  refine lv_istore_n (lv' := [(1, .int 0), (0, .ref (a 0))]) hx hb dX1_kill_1 rfl hl (by decide) rfl (fun ls hl => ?_)
  refine lv_iconst (v := 0) hx hb dX1_kill_2 (by decide) ?_
  refine lv_istore_n (lv' := [(2, .int 0), (1, .int 0), (0, .ref (a 0))]) hx hb dX1_kill_3 rfl hl (by decide) rfl (fun ls hl => ?_)
  obtain ⟨I1, μ1, h0_1, hI_1⟩ := h
  have loop_1 : ∀ (k : Nat) (x1_1 : Int32) (x2_1 : Int32) (li_1 : Nat → Int32) (le_1 : Nat → Int32) (vs_1 : Nat → Int32) (H : Heap) (locs : List Loc) (ls : Array Slot), μ1 x1_1 x2_1 li_1 le_1 vs_1 < k → I1 x1_1 x2_1 li_1 le_1 vs_1 → gSt D A s (gM a d li_1 le_1 vs_1 nd po dp) H locs → lv_has ls 4 [(0, .ref (a 0)), (1, .int x1_1), (2, .int x2_1)] → W p l e (gRm 1 23) s m args below meth c H locs 0 0 Q (F0 m 4 ls []) := by
    intro k
    induction k with
    | zero => intro x1_1 x2_1 li_1 le_1 vs_1 H locs ls hk; exact absurd hk (Nat.not_lt_zero _)
    | succ k ih_1 =>
      intro x1_1 x2_1 li_1 le_1 vs_1 H locs ls hk_1 hi hw hl
      have h := hI_1 x1_1 x2_1 li_1 le_1 vs_1 hi
      refine lv_iload_n hx hb dX1_kill_4 rfl (lv_at hl 2 rfl) ?_
      refine lv_aload_n hx hb dX1_kill_5 rfl (lv_at hl 0 rfl) ?_
      refine gm_get_nd C hw dX1_kill_6 ?_
      refine lv_icmp_ge (tgt := 90) hx hb dX1_kill_9 (by decide) (fun c2 => ?_) (fun c2 => ?_)
      · have h := h.1 c2
        refine lv_aload_n hx hb dX1_kill_90 rfl (lv_at hl 0 rfl) ?_
        refine gm_get_nd C hw dX1_kill_91 ?_
        refine lv_iload_n hx hb dX1_kill_94 rfl (lv_at hl 1 rfl) ?_
        refine lv_isub hx hb dX1_kill_95 ?_
        refine lv_istore_n (lv' := [(2, .int (nd - x1_1)), (0, .ref (a 0)), (1, .int x1_1)]) hx hb dX1_kill_96 rfl hl (by decide) rfl (fun ls hl => ?_)
        refine lv_aload_n hx hb dX1_kill_97 rfl (lv_at hl 1 rfl) ?_
        refine lv_iload_n hx hb dX1_kill_98 rfl (lv_at hl 2 rfl) ?_
        refine gm_put_nd C hw dX1_kill_99 (fun H locs hw => ?_)
        refine lv_iload_n hx hb dX1_kill_102 rfl (lv_at hl 0 rfl) ?_
        exact ret (nd - x1_1) (li_1, le_1, vs_1, x1_1) _ _ _ _ h rfl hw dX1_kill_103
      · have h := h.2 c2
        refine lv_aload_n hx hb dX1_kill_12 rfl (lv_at hl 0 rfl) ?_
        refine lv_iload_n hx hb dX1_kill_13 rfl (lv_at hl 2 rfl) ?_
        refine lv_aload_n hx hb dX1_kill_14 rfl (lv_at hl 0 rfl) ?_
        refine gm_get_dp C hw dX1_kill_15 ?_
        refine g_callVi (rest := []) C (c_X1_begins l D a d _ _ _ _ _ _ x2_1 dp h) 33 RX1 (lw_V q249 q251 qs16 q24 q252) (na := 2) (by decide +kernel) rfl (by decide) 1 rfl rfl rfl hw hl.1 rfl (Nat.le_of_ble_eq_true rfl) ⟨Nat.le_refl _, Nat.le_refl _⟩ dX1_kill_18 (fun r_3 u_3 H locs h hw => ?_)
        refine lv_if_ne (tgt := 84) hx hb dX1_kill_21 (by decide) (fun c4 => ?_) (fun c4 => ?_)
        · have h := h.1 c4
          refine lv_iinc (v := (x2_1 + 1)) (lv' := [(2, .int (x2_1 + 1)), (0, .ref (a 0)), (1, .int x1_1)]) hx hb dX1_kill_84 hl (k := 2) rfl rfl (by decide) rfl (fun ls hl => ?_)
          refine lv_goto (tgt := 4) hx hb dX1_kill_87 (by decide) ?_
          exact ih_1 _ _ _ _ _ _ _ _ (Nat.lt_of_lt_of_le h.2 (Nat.le_of_lt_succ hk_1)) h.1 hw (lv_sub hl [1, 2, 0] rfl)
        · have h := h.2 c4
          refine lv_iconst (v := 0) hx hb dX1_kill_24 (by decide) ?_
          refine lv_istore_n (lv' := [(3, .int 0), (0, .ref (a 0)), (1, .int x1_1), (2, .int x2_1)]) hx hb dX1_kill_25 rfl hl (by decide) rfl (fun ls hl => ?_)
          obtain ⟨I5, μ5, h0_5, hI_5⟩ := h
          have loop_5 : ∀ (k : Nat) (x3_5 : Int32) (li_5 : Nat → Int32) (H : Heap) (locs : List Loc) (ls : Array Slot), μ5 x3_5 li_5 < k → I5 x3_5 li_5 → gSt D A s (gM a d li_5 le_1 vs_1 nd po dp) H locs → lv_has ls 4 [(0, .ref (a 0)), (1, .int x1_1), (2, .int x2_1), (3, .int x3_5)] → W p l e (gRm 1 23) s m args below meth c H locs 0 0 Q (F0 m 26 ls []) := by
            intro k
            induction k with
            | zero => intro x3_5 li_5 H locs ls hk; exact absurd hk (Nat.not_lt_zero _)
            | succ k ih_5 =>
              intro x3_5 li_5 H locs ls hk_5 hi hw hl
              have h := hI_5 x3_5 li_5 hi
              refine lv_iload_n hx hb dX1_kill_26 rfl (lv_at hl 3 rfl) ?_
              refine lv_iconst (v := 3) hx hb dX1_kill_27 (by decide) ?_
              refine lv_icmp_ge (tgt := 57) hx hb dX1_kill_28 (by decide) (fun c6 => ?_) (fun c6 => ?_)
              · have h := h.1 c6
                refine lv_aload_n hx hb dX1_kill_57 rfl (lv_at hl 0 rfl) ?_
                refine gm_get_le C hw dX1_kill_58 ?_
                refine lv_iload_n hx hb dX1_kill_61 rfl (lv_at hl 1 rfl) ?_
                refine lv_aload_n hx hb dX1_kill_62 rfl (lv_at hl 0 rfl) ?_
                refine gm_get_le C hw dX1_kill_63 ?_
                refine lv_iload_n hx hb dX1_kill_66 rfl (lv_at hl 2 rfl) ?_
                have b7 := h.1
                have h := h.2
                refine gm_ald_le C hw b7 dX1_kill_67 ?_
                have b8 := h.1
                have h := h.2
                refine gm_ast_le C hw b8 dX1_kill_68 (fun H locs hw => ?_)
                refine lv_aload_n hx hb dX1_kill_69 rfl (lv_at hl 0 rfl) ?_
                refine gm_get_vs C hw dX1_kill_70 ?_
                refine lv_iload_n hx hb dX1_kill_73 rfl (lv_at hl 1 rfl) ?_
                refine lv_aload_n hx hb dX1_kill_74 rfl (lv_at hl 0 rfl) ?_
                refine gm_get_vs C hw dX1_kill_75 ?_
                refine lv_iload_n hx hb dX1_kill_78 rfl (lv_at hl 2 rfl) ?_
                have b9 := h.1
                have h := h.2
                refine gm_ald_vs C hw b9 dX1_kill_79 ?_
                have b10 := h.1
                have h := h.2
                refine gm_ast_vs C hw b10 dX1_kill_80 (fun H locs hw => ?_)
                refine lv_iinc (v := (x1_1 + 1)) (lv' := [(1, .int (x1_1 + 1)), (0, .ref (a 0)), (2, .int x2_1), (3, .int x3_5)]) hx hb dX1_kill_81 hl (k := 1) rfl rfl (by decide) rfl (fun ls hl => ?_)
                refine lv_iinc (v := (x2_1 + 1)) (lv' := [(2, .int (x2_1 + 1)), (1, .int (x1_1 + 1)), (0, .ref (a 0)), (3, .int x3_5)]) hx hb dX1_kill_84 hl (k := 2) rfl rfl (by decide) rfl (fun ls hl => ?_)
                refine lv_goto (tgt := 4) hx hb dX1_kill_87 (by decide) ?_
                exact ih_1 _ _ _ _ _ _ _ _ (Nat.lt_of_lt_of_le h.2 (Nat.le_of_lt_succ hk_1)) h.1 hw (lv_sub hl [2, 1, 0] rfl)
              · have h := h.2 c6
                refine lv_aload_n hx hb dX1_kill_31 rfl (lv_at hl 0 rfl) ?_
                refine gm_get_li C hw dX1_kill_32 ?_
                refine lv_iload_n hx hb dX1_kill_35 rfl (lv_at hl 1 rfl) ?_
                refine lv_iconst (v := 3) hx hb dX1_kill_36 (by decide) ?_
                refine lv_imul hx hb dX1_kill_37 ?_
                refine lv_iload_n hx hb dX1_kill_38 rfl (lv_at hl 3 rfl) ?_
                refine lv_iadd hx hb dX1_kill_39 ?_
                refine lv_aload_n hx hb dX1_kill_40 rfl (lv_at hl 0 rfl) ?_
                refine gm_get_li C hw dX1_kill_41 ?_
                refine lv_iload_n hx hb dX1_kill_44 rfl (lv_at hl 2 rfl) ?_
                refine lv_iconst (v := 3) hx hb dX1_kill_45 (by decide) ?_
                refine lv_imul hx hb dX1_kill_46 ?_
                refine lv_iload_n hx hb dX1_kill_47 rfl (lv_at hl 3 rfl) ?_
                refine lv_iadd hx hb dX1_kill_48 ?_
                have b11 := h.1
                have h := h.2
                refine gm_ald_li C hw b11 dX1_kill_49 ?_
                have b12 := h.1
                have h := h.2
                refine gm_ast_li C hw b12 dX1_kill_50 (fun H locs hw => ?_)
                refine lv_iinc (v := (x3_5 + 1)) (lv' := [(3, .int (x3_5 + 1)), (0, .ref (a 0)), (1, .int x1_1), (2, .int x2_1)]) hx hb dX1_kill_51 hl (k := 3) rfl rfl (by decide) rfl (fun ls hl => ?_)
                refine lv_goto (tgt := 26) hx hb dX1_kill_54 (by decide) ?_
                exact ih_5 _ _ _ _ _ (Nat.lt_of_lt_of_le h.2 (Nat.le_of_lt_succ hk_5)) h.1 hw (lv_sub hl [1, 2, 3, 0] rfl)
          exact loop_5 _ _ _ _ _ _ (Nat.lt_succ_self _) h0_5 hw (lv_sub hl [1, 2, 3, 0] rfl)
  exact loop_1 _ _ _ _ _ _ _ _ _ (Nat.lt_succ_self _) h0_1 hw (lv_sub hl [2, 1, 0] rfl)
end
section
set_option maxHeartbeats 4000000 in
set_option maxRecDepth 100000 in
theorem c_X1_twin (l : Launch) (D : va_G) (a : Nat → Nat) (d : ClassId) (li : Nat → Int32) (le : Nat → Int32) (vs : Nat → Int32) (nd : Int32) (po : Nat → Int32) (dp : Int32) (z1 : Int32) (z2 : Int32) (z3 : Int32) {K : Int32 → Prop} (h : X1_twin_w li le nd z1 z2 z3 K) : CTi l yX1_twin cX1_twin 7 (some .int)  (gRm 0 0) D d [.ref (a 0), .int z1, .int z2, .int z3] (gM a d li le vs nd po dp) (S := Unit) (fun (r : Int32) (u : Unit) => K r) (fun u => gM a d li le vs nd po dp) := by
  refine gEnter_i (by decide) (Nat.le_of_ble_eq_true rfl) ?_
  intro p e s m args below meth c A Q ls C ret hl hw
  have C : gCx RX1 cX1_twin 7 (some .int) D d A p s m args meth c := C
  have hx := C.1.1
  have hb := C.1.2.1
  have hown := C.1.2.2.2.1
  have hts := C.1.2.2.2.2
  have hl : lv_has ls 7 [(0, .ref (a 0)), (1, .int z1), (2, .int z2), (3, .int z3)] := hl
  unfold X1_twin_w at h
  refine lv_iconst (v := 0) hx hb dX1_twin_0 (by decide) ?_
  refine lv_istore (lv' := [(4, .int 0), (0, .ref (a 0)), (1, .int z1), (2, .int z2), (3, .int z3)]) hx hb dX1_twin_1 hl (by decide) rfl (fun ls hl => ?_)
  obtain ⟨I1, μ1, h0_1, hI_1⟩ := h
  have loop_1 : ∀ (k : Nat) (x4_1 : Int32) (H : Heap) (locs : List Loc) (ls : Array Slot), μ1 x4_1 < k → I1 x4_1 → gSt D A s (gM a d li le vs nd po dp) H locs → lv_has ls 7 [(0, .ref (a 0)), (1, .int z1), (2, .int z2), (3, .int z3), (4, .int x4_1)] → W p l e (gRm 0 0) s m args below meth c H locs 0 0 Q (F0 m 3 ls []) := by
    intro k
    induction k with
    | zero => intro x4_1 H locs ls hk; exact absurd hk (Nat.not_lt_zero _)
    | succ k ih_1 =>
      intro x4_1 H locs ls hk_1 hi hw hl
      have h := hI_1 x4_1 hi
      refine lv_iload hx hb dX1_twin_3 (lv_at hl 4 rfl) ?_
      refine lv_aload_n hx hb dX1_twin_5 rfl (lv_at hl 0 rfl) ?_
      refine gm_get_nd C hw dX1_twin_6 ?_
      refine lv_icmp_ge (tgt := 117) hx hb dX1_twin_9 (by decide) (fun c2 => ?_) (fun c2 => ?_)
      · have h := h.1 c2
        refine lv_iconst (v := (-1)) hx hb dX1_twin_117 (by decide) ?_
        exact ret (-1) () _ _ _ _ h rfl hw dX1_twin_118
      · have h := h.2 c2
        obtain ⟨J3, hJ_3, h⟩ := h
        have join_3 : ∀ (x5_3 : Int32) (H : Heap) (locs : List Loc) (ls : Array Slot), J3 x5_3 → gSt D A s (gM a d li le vs nd po dp) H locs → lv_has ls 7 [(0, .ref (a 0)), (1, .int z1), (2, .int z2), (3, .int z3), (4, .int x4_1), (5, .int x5_3)] → W p l e (gRm 0 0) s m args below meth c H locs 0 0 Q (F0 m 35 ls []) := by
          intro x5_3 H locs ls hi hw hl
          have h := hJ_3 x5_3 hi
          refine lv_iconst (v := 0) hx hb dX1_twin_35 (by decide) ?_
          refine lv_istore (lv' := [(6, .int 0), (0, .ref (a 0)), (1, .int z1), (2, .int z2), (3, .int z3), (4, .int x4_1), (5, .int x5_3)]) hx hb dX1_twin_36 hl (by decide) rfl (fun ls hl => ?_)
          obtain ⟨I4, μ4, h0_4, hI_4⟩ := h
          have loop_4 : ∀ (k : Nat) (x5_4 : Int32) (x6_4 : Int32) (H : Heap) (locs : List Loc) (ls : Array Slot), μ4 x5_4 x6_4 < k → I4 x5_4 x6_4 → gSt D A s (gM a d li le vs nd po dp) H locs → lv_has ls 7 [(0, .ref (a 0)), (1, .int z1), (2, .int z2), (3, .int z3), (4, .int x4_1), (5, .int x5_4), (6, .int x6_4)] → W p l e (gRm 0 0) s m args below meth c H locs 0 0 Q (F0 m 38 ls []) := by
            intro k
            induction k with
            | zero => intro x5_4 x6_4 H locs ls hk; exact absurd hk (Nat.not_lt_zero _)
            | succ k ih_4 =>
              intro x5_4 x6_4 H locs ls hk_4 hi hw hl
              have h := hI_4 x5_4 x6_4 hi
              refine lv_iload hx hb dX1_twin_38 (lv_at hl 6 rfl) ?_
              refine lv_aload_n hx hb dX1_twin_40 rfl (lv_at hl 0 rfl) ?_
              refine gm_get_le C hw dX1_twin_41 ?_
              refine lv_iload_n hx hb dX1_twin_44 rfl (lv_at hl 1 rfl) ?_
              have b5 := h.1
              have h := h.2
              refine gm_ald_le C hw b5 dX1_twin_45 ?_
              refine lv_icmp_ge (tgt := 103) hx hb dX1_twin_46 (by decide) (fun c6 => ?_) (fun c6 => ?_)
              · have h := h.1 c6
                refine lv_iload hx hb dX1_twin_103 (lv_at hl 5 rfl) ?_
                refine lv_if_eq (tgt := 111) hx hb dX1_twin_105 (by decide) (fun c7 => ?_) (fun c7 => ?_)
                · have h := h.1 c7
                  refine lv_iinc (v := (x4_1 + 1)) (lv' := [(4, .int (x4_1 + 1)), (0, .ref (a 0)), (1, .int z1), (2, .int z2), (3, .int z3), (5, .int x5_4), (6, .int x6_4)]) hx hb dX1_twin_111 hl (k := 4) rfl rfl (by decide) rfl (fun ls hl => ?_)
                  refine lv_goto (tgt := 3) hx hb dX1_twin_114 (by decide) ?_
                  exact ih_1 _ _ _ _ (Nat.lt_of_lt_of_le h.2 (Nat.le_of_lt_succ hk_1)) h.1 hw (lv_sub hl [1, 2, 3, 4, 0] rfl)
                · have h := h.2 c7
                  refine lv_iload hx hb dX1_twin_108 (lv_at hl 4 rfl) ?_
                  exact ret x4_1 () _ _ _ _ h rfl hw dX1_twin_110
              · have h := h.2 c6
                refine lv_iload hx hb dX1_twin_49 (lv_at hl 5 rfl) ?_
                refine lv_if_eq (tgt := 94) hx hb dX1_twin_51 (by decide) (fun c8 => ?_) (fun c8 => ?_)
                · have h := h.1 c8
                  refine lv_iconst (v := 0) hx hb dX1_twin_94 (by decide) ?_
                  refine lv_istore (lv' := [(5, .int 0), (0, .ref (a 0)), (1, .int z1), (2, .int z2), (3, .int z3), (4, .int x4_1), (6, .int x6_4)]) hx hb dX1_twin_95 hl (by decide) rfl (fun ls hl => ?_)
                  refine lv_iinc (v := (x6_4 + 1)) (lv' := [(6, .int (x6_4 + 1)), (5, .int 0), (0, .ref (a 0)), (1, .int z1), (2, .int z2), (3, .int z3), (4, .int x4_1)]) hx hb dX1_twin_97 hl (k := 6) rfl rfl (by decide) rfl (fun ls hl => ?_)
                  refine lv_goto (tgt := 38) hx hb dX1_twin_100 (by decide) ?_
                  exact ih_4 _ _ _ _ _ (Nat.lt_of_lt_of_le h.2 (Nat.le_of_lt_succ hk_4)) h.1 hw (lv_sub hl [2, 3, 4, 5, 6, 1, 0] rfl)
                · have h := h.2 c8
                  refine lv_aload_n hx hb dX1_twin_54 rfl (lv_at hl 0 rfl) ?_
                  refine gm_get_li C hw dX1_twin_55 ?_
                  refine lv_iload hx hb dX1_twin_58 (lv_at hl 4 rfl) ?_
                  refine lv_iconst (v := 3) hx hb dX1_twin_60 (by decide) ?_
                  refine lv_imul hx hb dX1_twin_61 ?_
                  refine lv_iload hx hb dX1_twin_62 (lv_at hl 6 rfl) ?_
                  refine lv_iadd hx hb dX1_twin_64 ?_
                  have b9 := h.1
                  have h := h.2
                  refine gm_ald_li C hw b9 dX1_twin_65 ?_
                  refine lv_iload hx hb dX1_twin_66 (lv_at hl 6 rfl) ?_
                  refine lv_iload_n hx hb dX1_twin_68 rfl (lv_at hl 2 rfl) ?_
                  refine lv_icmp_ne (tgt := 76) hx hb dX1_twin_69 (by decide) (fun c10 => ?_) (fun c10 => ?_)
                  · have h := h.1 c10
                    refine lv_aload_n hx hb dX1_twin_76 rfl (lv_at hl 0 rfl) ?_
                    refine gm_get_li C hw dX1_twin_77 ?_
                    refine lv_iload_n hx hb dX1_twin_80 rfl (lv_at hl 1 rfl) ?_
                    refine lv_iconst (v := 3) hx hb dX1_twin_81 (by decide) ?_
                    refine lv_imul hx hb dX1_twin_82 ?_
                    refine lv_iload hx hb dX1_twin_83 (lv_at hl 6 rfl) ?_
                    refine lv_iadd hx hb dX1_twin_85 ?_
                    have b11 := h.1
                    have h := h.2
                    refine gm_ald_li C hw b11 dX1_twin_86 ?_
                    refine lv_icmp_ne (tgt := 94) hx hb dX1_twin_87 (by decide) (fun c12 => ?_) (fun c12 => ?_)
                    · have h := h.1 c12
                      refine lv_iconst (v := 0) hx hb dX1_twin_94 (by decide) ?_
                      refine lv_istore (lv' := [(5, .int 0), (0, .ref (a 0)), (1, .int z1), (2, .int z2), (3, .int z3), (4, .int x4_1), (6, .int x6_4)]) hx hb dX1_twin_95 hl (by decide) rfl (fun ls hl => ?_)
                      refine lv_iinc (v := (x6_4 + 1)) (lv' := [(6, .int (x6_4 + 1)), (5, .int 0), (0, .ref (a 0)), (1, .int z1), (2, .int z2), (3, .int z3), (4, .int x4_1)]) hx hb dX1_twin_97 hl (k := 6) rfl rfl (by decide) rfl (fun ls hl => ?_)
                      refine lv_goto (tgt := 38) hx hb dX1_twin_100 (by decide) ?_
                      exact ih_4 _ _ _ _ _ (Nat.lt_of_lt_of_le h.2 (Nat.le_of_lt_succ hk_4)) h.1 hw (lv_sub hl [2, 3, 4, 5, 6, 1, 0] rfl)
                    · have h := h.2 c12
                      refine lv_iconst (v := 1) hx hb dX1_twin_90 (by decide) ?_
                      refine lv_goto (tgt := 95) hx hb dX1_twin_91 (by decide) ?_
                      refine lv_istore (lv' := [(5, .int 1), (0, .ref (a 0)), (1, .int z1), (2, .int z2), (3, .int z3), (4, .int x4_1), (6, .int x6_4)]) hx hb dX1_twin_95 hl (by decide) rfl (fun ls hl => ?_)
                      refine lv_iinc (v := (x6_4 + 1)) (lv' := [(6, .int (x6_4 + 1)), (5, .int 1), (0, .ref (a 0)), (1, .int z1), (2, .int z2), (3, .int z3), (4, .int x4_1)]) hx hb dX1_twin_97 hl (k := 6) rfl rfl (by decide) rfl (fun ls hl => ?_)
                      refine lv_goto (tgt := 38) hx hb dX1_twin_100 (by decide) ?_
                      exact ih_4 _ _ _ _ _ (Nat.lt_of_lt_of_le h.2 (Nat.le_of_lt_succ hk_4)) h.1 hw (lv_sub hl [2, 3, 4, 5, 6, 1, 0] rfl)
                  · have h := h.2 c10
                    refine lv_iload_n hx hb dX1_twin_72 rfl (lv_at hl 3 rfl) ?_
                    refine lv_goto (tgt := 87) hx hb dX1_twin_73 (by decide) ?_
                    refine lv_icmp_ne (tgt := 94) hx hb dX1_twin_87 (by decide) (fun c13 => ?_) (fun c13 => ?_)
                    · have h := h.1 c13
                      refine lv_iconst (v := 0) hx hb dX1_twin_94 (by decide) ?_
                      refine lv_istore (lv' := [(5, .int 0), (0, .ref (a 0)), (1, .int z1), (2, .int z2), (3, .int z3), (4, .int x4_1), (6, .int x6_4)]) hx hb dX1_twin_95 hl (by decide) rfl (fun ls hl => ?_)
                      refine lv_iinc (v := (x6_4 + 1)) (lv' := [(6, .int (x6_4 + 1)), (5, .int 0), (0, .ref (a 0)), (1, .int z1), (2, .int z2), (3, .int z3), (4, .int x4_1)]) hx hb dX1_twin_97 hl (k := 6) rfl rfl (by decide) rfl (fun ls hl => ?_)
                      refine lv_goto (tgt := 38) hx hb dX1_twin_100 (by decide) ?_
                      exact ih_4 _ _ _ _ _ (Nat.lt_of_lt_of_le h.2 (Nat.le_of_lt_succ hk_4)) h.1 hw (lv_sub hl [2, 3, 4, 5, 6, 1, 0] rfl)
                    · have h := h.2 c13
                      refine lv_iconst (v := 1) hx hb dX1_twin_90 (by decide) ?_
                      refine lv_goto (tgt := 95) hx hb dX1_twin_91 (by decide) ?_
                      refine lv_istore (lv' := [(5, .int 1), (0, .ref (a 0)), (1, .int z1), (2, .int z2), (3, .int z3), (4, .int x4_1), (6, .int x6_4)]) hx hb dX1_twin_95 hl (by decide) rfl (fun ls hl => ?_)
                      refine lv_iinc (v := (x6_4 + 1)) (lv' := [(6, .int (x6_4 + 1)), (5, .int 1), (0, .ref (a 0)), (1, .int z1), (2, .int z2), (3, .int z3), (4, .int x4_1)]) hx hb dX1_twin_97 hl (k := 6) rfl rfl (by decide) rfl (fun ls hl => ?_)
                      refine lv_goto (tgt := 38) hx hb dX1_twin_100 (by decide) ?_
                      exact ih_4 _ _ _ _ _ (Nat.lt_of_lt_of_le h.2 (Nat.le_of_lt_succ hk_4)) h.1 hw (lv_sub hl [2, 3, 4, 5, 6, 1, 0] rfl)
          exact loop_4 _ _ _ _ _ _ (Nat.lt_succ_self _) h0_4 hw (lv_sub hl [1, 2, 3, 4, 5, 6, 0] rfl)
        refine lv_aload_n hx hb dX1_twin_12 rfl (lv_at hl 0 rfl) ?_
        refine gm_get_le C hw dX1_twin_13 ?_
        refine lv_iload hx hb dX1_twin_16 (lv_at hl 4 rfl) ?_
        have b14 := h.1
        have h := h.2
        refine gm_ald_le C hw b14 dX1_twin_18 ?_
        refine lv_aload_n hx hb dX1_twin_19 rfl (lv_at hl 0 rfl) ?_
        refine gm_get_le C hw dX1_twin_20 ?_
        refine lv_iload_n hx hb dX1_twin_23 rfl (lv_at hl 1 rfl) ?_
        have b15 := h.1
        have h := h.2
        refine gm_ald_le C hw b15 dX1_twin_24 ?_
        refine lv_icmp_ne (tgt := 32) hx hb dX1_twin_25 (by decide) (fun c16 => ?_) (fun c16 => ?_)
        · have h := h.1 c16
          refine lv_iconst (v := 0) hx hb dX1_twin_32 (by decide) ?_
          refine lv_istore (lv' := [(5, .int 0), (0, .ref (a 0)), (1, .int z1), (2, .int z2), (3, .int z3), (4, .int x4_1)]) hx hb dX1_twin_33 hl (by decide) rfl (fun ls hl => ?_)
          exact join_3 _ _ _ _ h hw (lv_sub hl [1, 2, 3, 4, 5, 0] rfl)
        · have h := h.2 c16
          refine lv_iconst (v := 1) hx hb dX1_twin_28 (by decide) ?_
          refine lv_goto (tgt := 33) hx hb dX1_twin_29 (by decide) ?_
          refine lv_istore (lv' := [(5, .int 1), (0, .ref (a 0)), (1, .int z1), (2, .int z2), (3, .int z3), (4, .int x4_1)]) hx hb dX1_twin_33 hl (by decide) rfl (fun ls hl => ?_)
          exact join_3 _ _ _ _ h hw (lv_sub hl [1, 2, 3, 4, 5, 0] rfl)
  exact loop_1 _ _ _ _ _ (Nat.lt_succ_self _) h0_1 hw (lv_sub hl [1, 2, 3, 4, 0] rfl)
set_option maxHeartbeats 4000000 in
set_option maxRecDepth 100000 in
theorem c_X1_place (l : Launch) (D : va_G) (a : Nat → Nat) (d : ClassId) (li : Nat → Int32) (le : Nat → Int32) (vs : Nat → Int32) (nd : Int32) (po : Nat → Int32) (dp : Int32) (z1 : Int32) (z2 : Int32) {K : (Nat → Int32) → (Nat → Int32) → (Nat → Int32) → Int32 → Prop} (h : X1_place_w li le vs nd dp z1 z2 K) : CTv l yX1_place cX1_place 5  (gRm 1 26) D d [.ref (a 0), .int z1, .int z2] (gM a d li le vs nd po dp) (S := (Nat → Int32) × (Nat → Int32) × (Nat → Int32) × Int32) (fun (u : (Nat → Int32) × (Nat → Int32) × (Nat → Int32) × Int32) => K u.1 u.2.1 u.2.2.1 u.2.2.2) (fun u => gM a d u.1 u.2.1 u.2.2.1 u.2.2.2 po dp) := by
  refine gEnter_v (by decide) (Nat.le_of_ble_eq_true rfl) ?_
  intro p e s m args below meth c A Q ls C ret hl hw
  have C : gCx RX1 cX1_place 5 none D d A p s m args meth c := C
  have hx := C.1.1
  have hb := C.1.2.1
  have hown := C.1.2.2.2.1
  have hts := C.1.2.2.2.2
  have hl : lv_has ls 5 [(0, .ref (a 0)), (1, .int z1), (2, .int z2)] := hl
  unfold X1_place_w at h
  refine lv_aload_n hx hb dX1_place_0 rfl (lv_at hl 0 rfl) ?_
  refine lv_iload_n hx hb dX1_place_1 rfl (lv_at hl 1 rfl) ?_
  refine lv_aload_n hx hb dX1_place_2 rfl (lv_at hl 0 rfl) ?_
  refine gm_get_dp C hw dX1_place_3 ?_
  refine lv_iconst (v := 1) hx hb dX1_place_6 (by decide) ?_
  refine lv_isub hx hb dX1_place_7 ?_
  refine lv_iload_n hx hb dX1_place_8 rfl (lv_at hl 2 rfl) ?_
  refine g_callVi (rest := []) C (c_X1_twin l D a d _ _ _ _ _ _ z1 (dp - 1) z2 h) 48 RX1 (lw_V q270 q272 qs17 q24 q273) (na := 3) (by decide +kernel) rfl (by decide) 1 rfl rfl rfl hw hl.1 rfl (Nat.le_of_ble_eq_true rfl) ⟨Nat.le_refl _, Nat.le_refl _⟩ dX1_place_9 (fun r_1 u_1 H locs h hw => ?_)
  refine lv_istore_n (lv' := [(3, .int r_1), (0, .ref (a 0)), (1, .int z1), (2, .int z2)]) hx hb dX1_place_12 rfl hl (by decide) rfl (fun ls hl => ?_)
  obtain ⟨J2, hJ_2, h⟩ := h
  have join_2 : ∀ (x3_2 : Int32) (li_2 : Nat → Int32) (le_2 : Nat → Int32) (nd_2 : Int32) (H : Heap) (locs : List Loc) (ls : Array Slot), J2 x3_2 li_2 le_2 nd_2 → gSt D A s (gM a d li_2 le_2 vs nd_2 po dp) H locs → lv_has ls 5 [(0, .ref (a 0)), (1, .int z1), (3, .int x3_2)] → W p l e (gRm 1 26) s m args below meth c H locs 0 0 Q (F0 m 96 ls []) := by
    intro x3_2 li_2 le_2 nd_2 H locs ls hi hw hl
    have h := hJ_2 x3_2 li_2 le_2 nd_2 hi
    refine lv_aload_n hx hb dX1_place_96 rfl (lv_at hl 0 rfl) ?_
    refine gm_get_vs C hw dX1_place_97 ?_
    refine lv_iload_n hx hb dX1_place_100 rfl (lv_at hl 2 rfl) ?_
    refine lv_aload_n hx hb dX1_place_101 rfl (lv_at hl 0 rfl) ?_
    refine gm_get_vs C hw dX1_place_102 ?_
    refine lv_iload_n hx hb dX1_place_105 rfl (lv_at hl 1 rfl) ?_
    have b3 := h.1
    have h := h.2
    refine gm_ald_vs C hw b3 dX1_place_106 ?_
    have b4 := h.1
    have h := h.2
    refine gm_ast_vs C hw b4 dX1_place_107 (fun H locs hw => ?_)
    exact ret (li_2, le_2, (upd vs x3_2.toNatClampNeg (vs z1.toNatClampNeg)), nd_2) _ _ _ _ h hw dX1_place_108
  refine lv_iload_n hx hb dX1_place_13 rfl (lv_at hl 0 rfl) ?_
  refine lv_if_ge (tgt := 96) hx hb dX1_place_14 (by decide) (fun c5 => ?_) (fun c5 => ?_)
  · have h := h.1 c5
    exact join_2 _ _ _ _ _ _ _ h hw (lv_sub hl [1, 2, 0] rfl)
  · have h := h.2 c5
    refine lv_aload_n hx hb dX1_place_17 rfl (lv_at hl 1 rfl) ?_
    refine gm_get_nd C hw dX1_place_18 ?_
    refine lv_istore_n (lv' := [(3, .int nd), (0, .ref (a 0)), (1, .int z1), (2, .int z2)]) hx hb dX1_place_21 rfl hl (by decide) rfl (fun ls hl => ?_)
    refine lv_iconst (v := 0) hx hb dX1_place_22 (by decide) ?_
    refine lv_istore (lv' := [(4, .int 0), (3, .int nd), (0, .ref (a 0)), (1, .int z1), (2, .int z2)]) hx hb dX1_place_23 hl (by decide) rfl (fun ls hl => ?_)
    obtain ⟨I6, μ6, h0_6, hI_6⟩ := h
    have loop_6 : ∀ (k : Nat) (x4_6 : Int32) (li_6 : Nat → Int32) (H : Heap) (locs : List Loc) (ls : Array Slot), μ6 x4_6 li_6 < k → I6 x4_6 li_6 → gSt D A s (gM a d li_6 le vs nd po dp) H locs → lv_has ls 5 [(0, .ref (a 0)), (1, .int z1), (2, .int z2), (3, .int nd), (4, .int x4_6)] → W p l e (gRm 1 26) s m args below meth c H locs 0 0 Q (F0 m 25 ls []) := by
      intro k
      induction k with
      | zero => intro x4_6 li_6 H locs ls hk; exact absurd hk (Nat.not_lt_zero _)
      | succ k ih_6 =>
        intro x4_6 li_6 H locs ls hk_6 hi hw hl
        have h := hI_6 x4_6 li_6 hi
        refine lv_iload hx hb dX1_place_25 (lv_at hl 4 rfl) ?_
        refine lv_iconst (v := 3) hx hb dX1_place_27 (by decide) ?_
        refine lv_icmp_ge (tgt := 74) hx hb dX1_place_28 (by decide) (fun c7 => ?_) (fun c7 => ?_)
        · have h := h.1 c7
          refine lv_aload_n hx hb dX1_place_74 rfl (lv_at hl 0 rfl) ?_
          refine gm_get_le C hw dX1_place_75 ?_
          refine lv_iload_n hx hb dX1_place_78 rfl (lv_at hl 3 rfl) ?_
          refine lv_aload_n hx hb dX1_place_79 rfl (lv_at hl 0 rfl) ?_
          refine gm_get_le C hw dX1_place_80 ?_
          refine lv_iload_n hx hb dX1_place_83 rfl (lv_at hl 1 rfl) ?_
          have b8 := h.1
          have h := h.2
          refine gm_ald_le C hw b8 dX1_place_84 ?_
          have b9 := h.1
          have h := h.2
          refine gm_ast_le C hw b9 dX1_place_85 (fun H locs hw => ?_)
          refine lv_aload_n hx hb dX1_place_86 rfl (lv_at hl 0 rfl) ?_
          refine lv_dup hx hb dX1_place_87 rfl ?_
          refine gm_get_nd C hw dX1_place_88 ?_
          refine lv_iconst (v := 1) hx hb dX1_place_91 (by decide) ?_
          refine lv_iadd hx hb dX1_place_92 ?_
          refine gm_put_nd C hw dX1_place_93 (fun H locs hw => ?_)
          exact join_2 _ _ _ _ _ _ _ h hw (lv_sub hl [0, 1, 3] rfl)
        · have h := h.2 c7
          refine lv_aload_n hx hb dX1_place_31 rfl (lv_at hl 0 rfl) ?_
          refine gm_get_li C hw dX1_place_32 ?_
          refine lv_iload_n hx hb dX1_place_35 rfl (lv_at hl 3 rfl) ?_
          refine lv_iconst (v := 3) hx hb dX1_place_36 (by decide) ?_
          refine lv_imul hx hb dX1_place_37 ?_
          refine lv_iload hx hb dX1_place_38 (lv_at hl 4 rfl) ?_
          refine lv_iadd hx hb dX1_place_40 ?_
          refine lv_iload hx hb dX1_place_41 (lv_at hl 4 rfl) ?_
          refine lv_aload_n hx hb dX1_place_43 rfl (lv_at hl 0 rfl) ?_
          refine gm_get_dp C hw dX1_place_44 ?_
          refine lv_iconst (v := 1) hx hb dX1_place_47 (by decide) ?_
          refine lv_isub hx hb dX1_place_48 ?_
          refine lv_icmp_ne (tgt := 56) hx hb dX1_place_49 (by decide) (fun c10 => ?_) (fun c10 => ?_)
          · have h := h.1 c10
            refine lv_aload_n hx hb dX1_place_56 rfl (lv_at hl 0 rfl) ?_
            refine gm_get_li C hw dX1_place_57 ?_
            refine lv_iload_n hx hb dX1_place_60 rfl (lv_at hl 1 rfl) ?_
            refine lv_iconst (v := 3) hx hb dX1_place_61 (by decide) ?_
            refine lv_imul hx hb dX1_place_62 ?_
            refine lv_iload hx hb dX1_place_63 (lv_at hl 4 rfl) ?_
            refine lv_iadd hx hb dX1_place_65 ?_
            have b11 := h.1
            have h := h.2
            refine gm_ald_li C hw b11 dX1_place_66 ?_
            have b12 := h.1
            have h := h.2
            refine gm_ast_li C hw b12 dX1_place_67 (fun H locs hw => ?_)
            refine lv_iinc (v := (x4_6 + 1)) (lv' := [(4, .int (x4_6 + 1)), (0, .ref (a 0)), (1, .int z1), (2, .int z2), (3, .int nd)]) hx hb dX1_place_68 hl (k := 4) rfl rfl (by decide) rfl (fun ls hl => ?_)
            refine lv_goto (tgt := 25) hx hb dX1_place_71 (by decide) ?_
            exact ih_6 _ _ _ _ _ (Nat.lt_of_lt_of_le h.2 (Nat.le_of_lt_succ hk_6)) h.1 hw (lv_sub hl [1, 2, 3, 4, 0] rfl)
          · have h := h.2 c10
            refine lv_iload_n hx hb dX1_place_52 rfl (lv_at hl 2 rfl) ?_
            refine lv_goto (tgt := 67) hx hb dX1_place_53 (by decide) ?_
            have b13 := h.1
            have h := h.2
            refine gm_ast_li C hw b13 dX1_place_67 (fun H locs hw => ?_)
            refine lv_iinc (v := (x4_6 + 1)) (lv' := [(4, .int (x4_6 + 1)), (0, .ref (a 0)), (1, .int z1), (2, .int z2), (3, .int nd)]) hx hb dX1_place_68 hl (k := 4) rfl rfl (by decide) rfl (fun ls hl => ?_)
            refine lv_goto (tgt := 25) hx hb dX1_place_71 (by decide) ?_
            exact ih_6 _ _ _ _ _ (Nat.lt_of_lt_of_le h.2 (Nat.le_of_lt_succ hk_6)) h.1 hw (lv_sub hl [1, 2, 3, 4, 0] rfl)
    exact loop_6 _ _ _ _ _ _ (Nat.lt_succ_self _) h0_6 hw (lv_sub hl [2, 3, 4, 1, 0] rfl)
set_option maxHeartbeats 4000000 in
set_option maxRecDepth 100000 in
theorem c_X1_merge (l : Launch) (D : va_G) (a : Nat → Nat) (d : ClassId) (li : Nat → Int32) (le : Nat → Int32) (vs : Nat → Int32) (nd : Int32) (po : Nat → Int32) (dp : Int32) (z1 : Int32) {K : Int32 → (Nat → Int32) → (Nat → Int32) → (Nat → Int32) → Int32 → Prop} (h : X1_merge_w li le vs nd po dp z1 K) : CTi l yX1_merge cX1_merge 6 (some .int)  (gRm 2 50) D d [.ref (a 0), .int z1] (gM a d li le vs nd po dp) (S := (Nat → Int32) × (Nat → Int32) × (Nat → Int32) × Int32) (fun (r : Int32) (u : (Nat → Int32) × (Nat → Int32) × (Nat → Int32) × Int32) => K r u.1 u.2.1 u.2.2.1 u.2.2.2) (fun u => gM a d u.1 u.2.1 u.2.2.1 u.2.2.2 po dp) := by
  refine gEnter_i (by decide) (Nat.le_of_ble_eq_true rfl) ?_
  intro p e s m args below meth c A Q ls C ret hl hw
  have C : gCx RX1 cX1_merge 6 (some .int) D d A p s m args meth c := C
  have hx := C.1.1
  have hb := C.1.2.1
  have hown := C.1.2.2.2.1
  have hts := C.1.2.2.2.2
  have hl : lv_has ls 6 [(0, .ref (a 0)), (1, .int z1)] := hl
  unfold X1_merge_w at h
  refine lv_aload_n hx hb dX1_merge_0 rfl (lv_at hl 0 rfl) ?_
  refine gm_get_dp C hw dX1_merge_1 ?_
  refine lv_if_ne (tgt := 10) hx hb dX1_merge_4 (by decide) (fun c1 => ?_) (fun c1 => ?_)
  · have h := h.1 c1
    refine lv_aload_n hx hb dX1_merge_10 rfl (lv_at hl 0 rfl) ?_
    refine lv_iload_n hx hb dX1_merge_11 rfl (lv_at hl 1 rfl) ?_
    refine g_callVi (rest := []) C (c_X1_isSubscript l D a d _ _ _ _ _ _ z1 h) 22 RX1 (lw_V q229 q231 qs14 q24 q232) (na := 1) (by decide +kernel) rfl (by decide) 1 rfl rfl rfl hw hl.1 rfl (Nat.le_of_ble_eq_true rfl) ⟨Nat.le_refl _, Nat.le_refl _⟩ dX1_merge_12 (fun r_2 u_2 H locs h hw => ?_)
    refine lv_if_ne (tgt := 20) hx hb dX1_merge_15 (by decide) (fun c3 => ?_) (fun c3 => ?_)
    · have h := h.1 c3
      refine lv_aload_n hx hb dX1_merge_20 rfl (lv_at hl 0 rfl) ?_
      refine gm_get_nd C hw dX1_merge_21 ?_
      refine lv_istore_n (lv' := [(2, .int nd), (0, .ref (a 0)), (1, .int z1)]) hx hb dX1_merge_24 rfl hl (by decide) rfl (fun ls hl => ?_)
      refine lv_iconst (v := 0) hx hb dX1_merge_25 (by decide) ?_
      refine lv_istore_n (lv' := [(3, .int 0), (2, .int nd), (0, .ref (a 0)), (1, .int z1)]) hx hb dX1_merge_26 rfl hl (by decide) rfl (fun ls hl => ?_)
      refine lv_iconst (v := 0) hx hb dX1_merge_27 (by decide) ?_
      refine lv_istore (lv' := [(4, .int 0), (3, .int 0), (2, .int nd), (0, .ref (a 0)), (1, .int z1)]) hx hb dX1_merge_28 hl (by decide) rfl (fun ls hl => ?_)
      refine lv_iconst (v := 0) hx hb dX1_merge_30 (by decide) ?_
      refine lv_istore (lv' := [(5, .int 0), (4, .int 0), (3, .int 0), (2, .int nd), (0, .ref (a 0)), (1, .int z1)]) hx hb dX1_merge_31 hl (by decide) rfl (fun ls hl => ?_)
      obtain ⟨I4, μ4, h0_4, hI_4⟩ := h
      have loop_4 : ∀ (k : Nat) (x3_4 : Int32) (x4_4 : Int32) (x5_4 : Int32) (H : Heap) (locs : List Loc) (ls : Array Slot), μ4 x3_4 x4_4 x5_4 < k → I4 x3_4 x4_4 x5_4 → gSt D A s (gM a d li le vs nd po dp) H locs → lv_has ls 6 [(0, .ref (a 0)), (1, .int z1), (2, .int nd), (3, .int x3_4), (4, .int x4_4), (5, .int x5_4)] → W p l e (gRm 2 50) s m args below meth c H locs 0 0 Q (F0 m 33 ls []) := by
        intro k
        induction k with
        | zero => intro x3_4 x4_4 x5_4 H locs ls hk; exact absurd hk (Nat.not_lt_zero _)
        | succ k ih_4 =>
          intro x3_4 x4_4 x5_4 H locs ls hk_4 hi hw hl
          have h := hI_4 x3_4 x4_4 x5_4 hi
          refine lv_iload hx hb dX1_merge_33 (lv_at hl 5 rfl) ?_
          refine lv_iload_n hx hb dX1_merge_35 rfl (lv_at hl 2 rfl) ?_
          refine lv_icmp_ge (tgt := 80) hx hb dX1_merge_36 (by decide) (fun c5 => ?_) (fun c5 => ?_)
          · have h := h.1 c5
            refine lv_iload_n hx hb dX1_merge_80 rfl (lv_at hl 2 rfl) ?_
            refine lv_iload hx hb dX1_merge_81 (lv_at hl 4 rfl) ?_
            refine lv_iadd hx hb dX1_merge_83 ?_
            refine lv_bipush (v := 60) hx hb dX1_merge_84 (by decide) ?_
            refine lv_icmp_le (tgt := 92) hx hb dX1_merge_86 (by decide) (fun c6 => ?_) (fun c6 => ?_)
            · have h := h.1 c6
              refine lv_iconst (v := 0) hx hb dX1_merge_92 (by decide) ?_
              refine lv_istore (lv' := [(5, .int 0), (0, .ref (a 0)), (1, .int z1), (2, .int nd), (3, .int x3_4), (4, .int x4_4)]) hx hb dX1_merge_93 hl (by decide) rfl (fun ls hl => ?_)
              obtain ⟨I7, μ7, h0_7, hI_7⟩ := h
              have loop_7 : ∀ (k : Nat) (x5_7 : Int32) (li_7 : Nat → Int32) (le_7 : Nat → Int32) (vs_7 : Nat → Int32) (nd_7 : Int32) (H : Heap) (locs : List Loc) (ls : Array Slot), μ7 x5_7 li_7 le_7 vs_7 nd_7 < k → I7 x5_7 li_7 le_7 vs_7 nd_7 → gSt D A s (gM a d li_7 le_7 vs_7 nd_7 po dp) H locs → lv_has ls 6 [(0, .ref (a 0)), (1, .int z1), (2, .int nd), (3, .int x3_4), (5, .int x5_7)] → W p l e (gRm 2 50) s m args below meth c H locs 0 0 Q (F0 m 95 ls []) := by
                intro k
                induction k with
                | zero => intro x5_7 li_7 le_7 vs_7 nd_7 H locs ls hk; exact absurd hk (Nat.not_lt_zero _)
                | succ k ih_7 =>
                  intro x5_7 li_7 le_7 vs_7 nd_7 H locs ls hk_7 hi hw hl
                  have h := hI_7 x5_7 li_7 le_7 vs_7 nd_7 hi
                  refine lv_iload hx hb dX1_merge_95 (lv_at hl 4 rfl) ?_
                  refine lv_iload_n hx hb dX1_merge_97 rfl (lv_at hl 2 rfl) ?_
                  refine lv_icmp_ge (tgt := 127) hx hb dX1_merge_98 (by decide) (fun c8 => ?_) (fun c8 => ?_)
                  · have h := h.1 c8
                    refine lv_iload_n hx hb dX1_merge_127 rfl (lv_at hl 3 rfl) ?_
                    exact ret x3_4 (li_7, le_7, vs_7, nd_7) _ _ _ _ h rfl hw dX1_merge_128
                  · have h := h.2 c8
                    refine lv_aload_n hx hb dX1_merge_101 rfl (lv_at hl 0 rfl) ?_
                    refine lv_iload hx hb dX1_merge_102 (lv_at hl 4 rfl) ?_
                    refine lv_aload_n hx hb dX1_merge_104 rfl (lv_at hl 0 rfl) ?_
                    refine gm_get_dp C hw dX1_merge_105 ?_
                    refine g_callVi (rest := []) C (c_X1_begins l D a d _ _ _ _ _ _ x5_7 dp h) 33 RX1 (lw_V q249 q251 qs16 q24 q252) (na := 2) (by decide +kernel) rfl (by decide) 1 rfl rfl rfl hw hl.1 rfl (Nat.le_of_ble_eq_true rfl) ⟨Nat.le_refl _, Nat.le_refl _⟩ dX1_merge_108 (fun r_9 u_9 H locs h hw => ?_)
                    refine lv_if_eq (tgt := 121) hx hb dX1_merge_111 (by decide) (fun c10 => ?_) (fun c10 => ?_)
                    · have h := h.1 c10
                      refine lv_iinc (v := (x5_7 + 1)) (lv' := [(5, .int (x5_7 + 1)), (0, .ref (a 0)), (1, .int z1), (2, .int nd), (3, .int x3_4)]) hx hb dX1_merge_121 hl (k := 4) rfl rfl (by decide) rfl (fun ls hl => ?_)
                      refine lv_goto (tgt := 95) hx hb dX1_merge_124 (by decide) ?_
                      exact ih_7 _ _ _ _ _ _ _ _ (Nat.lt_of_lt_of_le h.2 (Nat.le_of_lt_succ hk_7)) h.1 hw (lv_sub hl [1, 2, 3, 4, 0] rfl)
                    · have h := h.2 c10
                      refine lv_aload_n hx hb dX1_merge_114 rfl (lv_at hl 0 rfl) ?_
                      refine lv_iload hx hb dX1_merge_115 (lv_at hl 4 rfl) ?_
                      refine lv_iload_n hx hb dX1_merge_117 rfl (lv_at hl 1 rfl) ?_
                      refine g_callVv (rest := []) C (c_X1_place l D a d _ _ _ _ _ _ x5_7 z1 h) 52 RX1 (lw_V q274 q276 qs18 q24 q277) (na := 2) (by decide +kernel) rfl (by decide) 1 rfl rfl rfl hw hl.1 rfl (Nat.le_of_ble_eq_true rfl) ⟨Nat.le_refl _, Nat.le_refl _⟩ dX1_merge_118 (fun u_11 H locs h hw => ?_)
                      obtain ⟨li_11, le_11, vs_11, nd_11⟩ := u_11
                      have hw : gSt D A s (gM a d li_11 le_11 vs_11 nd_11 po dp) H locs := hw
                      refine lv_iinc (v := (x5_7 + 1)) (lv' := [(5, .int (x5_7 + 1)), (0, .ref (a 0)), (1, .int z1), (2, .int nd), (3, .int x3_4)]) hx hb dX1_merge_121 hl (k := 4) rfl rfl (by decide) rfl (fun ls hl => ?_)
                      refine lv_goto (tgt := 95) hx hb dX1_merge_124 (by decide) ?_
                      exact ih_7 _ _ _ _ _ _ _ _ (Nat.lt_of_lt_of_le h.2 (Nat.le_of_lt_succ hk_7)) h.1 hw (lv_sub hl [1, 2, 3, 4, 0] rfl)
              exact loop_7 _ _ _ _ _ _ _ _ _ (Nat.lt_succ_self _) h0_7 hw (lv_sub hl [1, 2, 3, 4, 0] rfl)
            · have h := h.2 c6
              refine lv_bipush (v := (-2)) hx hb dX1_merge_89 (by decide) ?_
              exact ret (-2) (li, le, vs, nd) _ _ _ _ h rfl hw dX1_merge_91
          · have h := h.2 c5
            refine lv_aload_n hx hb dX1_merge_39 rfl (lv_at hl 0 rfl) ?_
            refine lv_iload hx hb dX1_merge_40 (lv_at hl 5 rfl) ?_
            refine lv_aload_n hx hb dX1_merge_42 rfl (lv_at hl 0 rfl) ?_
            refine gm_get_dp C hw dX1_merge_43 ?_
            refine g_callVi (rest := []) C (c_X1_begins l D a d _ _ _ _ _ _ x5_4 dp h) 33 RX1 (lw_V q249 q251 qs16 q24 q252) (na := 2) (by decide +kernel) rfl (by decide) 1 rfl rfl rfl hw hl.1 rfl (Nat.le_of_ble_eq_true rfl) ⟨Nat.le_refl _, Nat.le_refl _⟩ dX1_merge_46 (fun r_12 u_12 H locs h hw => ?_)
            refine lv_if_eq (tgt := 74) hx hb dX1_merge_49 (by decide) (fun c13 => ?_) (fun c13 => ?_)
            · have h := h.1 c13
              refine lv_iinc (v := (x5_4 + 1)) (lv' := [(5, .int (x5_4 + 1)), (0, .ref (a 0)), (1, .int z1), (2, .int nd), (3, .int x3_4), (4, .int x4_4)]) hx hb dX1_merge_74 hl (k := 5) rfl rfl (by decide) rfl (fun ls hl => ?_)
              refine lv_goto (tgt := 33) hx hb dX1_merge_77 (by decide) ?_
              exact ih_4 _ _ _ _ _ _ (Nat.lt_of_lt_of_le h.2 (Nat.le_of_lt_succ hk_4)) h.1 hw (lv_sub hl [1, 2, 3, 4, 5, 0] rfl)
            · have h := h.2 c13
              refine lv_iinc (v := (x3_4 + 1)) (lv' := [(3, .int (x3_4 + 1)), (0, .ref (a 0)), (1, .int z1), (2, .int nd), (4, .int x4_4), (5, .int x5_4)]) hx hb dX1_merge_52 hl (k := 3) rfl rfl (by decide) rfl (fun ls hl => ?_)
              refine lv_aload_n hx hb dX1_merge_55 rfl (lv_at hl 1 rfl) ?_
              refine lv_iload hx hb dX1_merge_56 (lv_at hl 5 rfl) ?_
              refine lv_aload_n hx hb dX1_merge_58 rfl (lv_at hl 1 rfl) ?_
              refine gm_get_dp C hw dX1_merge_59 ?_
              refine lv_iconst (v := 1) hx hb dX1_merge_62 (by decide) ?_
              refine lv_isub hx hb dX1_merge_63 ?_
              refine lv_iload_n hx hb dX1_merge_64 rfl (lv_at hl 2 rfl) ?_
              refine g_callVi (rest := []) C (c_X1_twin l D a d _ _ _ _ _ _ x5_4 (dp - 1) z1 h) 48 RX1 (lw_V q270 q272 qs17 q24 q273) (na := 3) (by decide +kernel) rfl (by decide) 1 rfl rfl rfl hw hl.1 rfl (Nat.le_of_ble_eq_true rfl) ⟨Nat.le_refl _, Nat.le_refl _⟩ dX1_merge_65 (fun r_14 u_14 H locs h hw => ?_)
              refine lv_if_ge (tgt := 74) hx hb dX1_merge_68 (by decide) (fun c15 => ?_) (fun c15 => ?_)
              · have h := h.1 c15
                refine lv_iinc (v := (x5_4 + 1)) (lv' := [(5, .int (x5_4 + 1)), (3, .int (x3_4 + 1)), (0, .ref (a 0)), (1, .int z1), (2, .int nd), (4, .int x4_4)]) hx hb dX1_merge_74 hl (k := 5) rfl rfl (by decide) rfl (fun ls hl => ?_)
                refine lv_goto (tgt := 33) hx hb dX1_merge_77 (by decide) ?_
                exact ih_4 _ _ _ _ _ _ (Nat.lt_of_lt_of_le h.2 (Nat.le_of_lt_succ hk_4)) h.1 hw (lv_sub hl [2, 3, 4, 1, 5, 0] rfl)
              · have h := h.2 c15
                refine lv_iinc (v := (x4_4 + 1)) (lv' := [(4, .int (x4_4 + 1)), (3, .int (x3_4 + 1)), (0, .ref (a 0)), (1, .int z1), (2, .int nd), (5, .int x5_4)]) hx hb dX1_merge_71 hl (k := 4) rfl rfl (by decide) rfl (fun ls hl => ?_)
                refine lv_iinc (v := (x5_4 + 1)) (lv' := [(5, .int (x5_4 + 1)), (4, .int (x4_4 + 1)), (3, .int (x3_4 + 1)), (0, .ref (a 0)), (1, .int z1), (2, .int nd)]) hx hb dX1_merge_74 hl (k := 5) rfl rfl (by decide) rfl (fun ls hl => ?_)
                refine lv_goto (tgt := 33) hx hb dX1_merge_77 (by decide) ?_
                exact ih_4 _ _ _ _ _ _ (Nat.lt_of_lt_of_le h.2 (Nat.le_of_lt_succ hk_4)) h.1 hw (lv_sub hl [3, 4, 5, 2, 1, 0] rfl)
      exact loop_4 _ _ _ _ _ _ _ (Nat.lt_succ_self _) h0_4 hw (lv_sub hl [4, 5, 3, 2, 1, 0] rfl)
    · have h := h.2 c3
      refine lv_iconst (v := (-1)) hx hb dX1_merge_18 (by decide) ?_
      exact ret (-1) (li, le, vs, nd) _ _ _ _ h rfl hw dX1_merge_19
  · have h := h.2 c1
    refine lv_bipush (v := (-3)) hx hb dX1_merge_7 (by decide) ?_
    exact ret (-3) (li, le, vs, nd) _ _ _ _ h rfl hw dX1_merge_9
set_option maxHeartbeats 4000000 in
set_option maxRecDepth 100000 in
theorem c_X1_data (l : Launch) (D : va_G) (a : Nat → Nat) (d : ClassId) (li : Nat → Int32) (le : Nat → Int32) (vs : Nat → Int32) (nd : Int32) (po : Nat → Int32) (dp : Int32) {K : Int32 → Prop} (h : X1_data_w li le nd po dp K) : CTi l yX1_data cX1_data 3 (some .int)  (gRm 2 44) D d [.ref (a 0)] (gM a d li le vs nd po dp) (S := Unit) (fun (r : Int32) (u : Unit) => K r) (fun u => gM a d li le vs nd po dp) := by
  refine gEnter_i (by decide) (Nat.le_of_ble_eq_true rfl) ?_
  intro p e s m args below meth c A Q ls C ret hl hw
  have C : gCx RX1 cX1_data 3 (some .int) D d A p s m args meth c := C
  have hx := C.1.1
  have hb := C.1.2.1
  have hown := C.1.2.2.2.1
  have hts := C.1.2.2.2.2
  have hl : lv_has ls 3 [(0, .ref (a 0))] := hl
  unfold X1_data_w at h
  refine lv_iconst (v := 0) hx hb dX1_data_0 (by decide) ?_
  refine lv_istore_n (lv' := [(1, .int 0), (0, .ref (a 0))]) hx hb dX1_data_1 rfl hl (by decide) rfl (fun ls hl => ?_)
  refine lv_iconst (v := 0) hx hb dX1_data_2 (by decide) ?_
  refine lv_istore_n (lv' := [(2, .int 0), (1, .int 0), (0, .ref (a 0))]) hx hb dX1_data_3 rfl hl (by decide) rfl (fun ls hl => ?_)
  obtain ⟨I1, μ1, h0_1, hI_1⟩ := h
  have loop_1 : ∀ (k : Nat) (x1_1 : Int32) (x2_1 : Int32) (H : Heap) (locs : List Loc) (ls : Array Slot), μ1 x1_1 x2_1 < k → I1 x1_1 x2_1 → gSt D A s (gM a d li le vs nd po dp) H locs → lv_has ls 3 [(0, .ref (a 0)), (1, .int x1_1), (2, .int x2_1)] → W p l e (gRm 2 44) s m args below meth c H locs 0 0 Q (F0 m 4 ls []) := by
    intro k
    induction k with
    | zero => intro x1_1 x2_1 H locs ls hk; exact absurd hk (Nat.not_lt_zero _)
    | succ k ih_1 =>
      intro x1_1 x2_1 H locs ls hk_1 hi hw hl
      have h := hI_1 x1_1 x2_1 hi
      refine lv_iload_n hx hb dX1_data_4 rfl (lv_at hl 2 rfl) ?_
      refine lv_aload_n hx hb dX1_data_5 rfl (lv_at hl 0 rfl) ?_
      refine gm_get_nd C hw dX1_data_6 ?_
      refine lv_icmp_ge (tgt := 46) hx hb dX1_data_9 (by decide) (fun c2 => ?_) (fun c2 => ?_)
      · have h := h.1 c2
        refine lv_aload_n hx hb dX1_data_46 rfl (lv_at hl 0 rfl) ?_
        refine g_callVi (rest := []) C (c_X1_here l D a d _ _ _ _ _ _  h) 37 RX1 (lw_V q245 q247 qs15 q24 q248) (na := 0) (by decide +kernel) rfl (by decide) 1 rfl rfl rfl hw hl.1 rfl (Nat.le_of_ble_eq_true rfl) ⟨Nat.le_refl _, Nat.le_refl _⟩ dX1_data_47 (fun r_3 u_3 H locs h hw => ?_)
        refine lv_if_lt (tgt := 59) hx hb dX1_data_50 (by decide) (fun c4 => ?_) (fun c4 => ?_)
        · have h := h.1 c4
          refine lv_iload_n hx hb dX1_data_59 rfl (lv_at hl 1 rfl) ?_
          exact ret x1_1 () _ _ _ _ h rfl hw dX1_data_60
        · have h := h.2 c4
          refine lv_iload_n hx hb dX1_data_53 rfl (lv_at hl 1 rfl) ?_
          refine lv_iconst (v := 1) hx hb dX1_data_54 (by decide) ?_
          refine lv_iadd hx hb dX1_data_55 ?_
          refine lv_goto (tgt := 60) hx hb dX1_data_56 (by decide) ?_
          exact ret (x1_1 + 1) () _ _ _ _ h rfl hw dX1_data_60
      · have h := h.2 c2
        refine lv_aload_n hx hb dX1_data_12 rfl (lv_at hl 0 rfl) ?_
        refine lv_iload_n hx hb dX1_data_13 rfl (lv_at hl 2 rfl) ?_
        refine lv_aload_n hx hb dX1_data_14 rfl (lv_at hl 0 rfl) ?_
        refine gm_get_dp C hw dX1_data_15 ?_
        refine g_callVi (rest := []) C (c_X1_begins l D a d _ _ _ _ _ _ x2_1 dp h) 33 RX1 (lw_V q249 q251 qs16 q24 q252) (na := 2) (by decide +kernel) rfl (by decide) 1 rfl rfl rfl hw hl.1 rfl (Nat.le_of_ble_eq_true rfl) ⟨Nat.le_refl _, Nat.le_refl _⟩ dX1_data_18 (fun r_5 u_5 H locs h hw => ?_)
        refine lv_if_eq (tgt := 40) hx hb dX1_data_21 (by decide) (fun c6 => ?_) (fun c6 => ?_)
        · have h := h.1 c6
          refine lv_iinc (v := (x2_1 + 1)) (lv' := [(2, .int (x2_1 + 1)), (0, .ref (a 0)), (1, .int x1_1)]) hx hb dX1_data_40 hl (k := 2) rfl rfl (by decide) rfl (fun ls hl => ?_)
          refine lv_goto (tgt := 4) hx hb dX1_data_43 (by decide) ?_
          exact ih_1 _ _ _ _ _ (Nat.lt_of_lt_of_le h.2 (Nat.le_of_lt_succ hk_1)) h.1 hw (lv_sub hl [1, 2, 0] rfl)
        · have h := h.2 c6
          refine lv_aload_n hx hb dX1_data_24 rfl (lv_at hl 0 rfl) ?_
          refine gm_get_le C hw dX1_data_25 ?_
          refine lv_iload_n hx hb dX1_data_28 rfl (lv_at hl 2 rfl) ?_
          have b7 := h.1
          have h := h.2
          refine gm_ald_le C hw b7 dX1_data_29 ?_
          refine lv_aload_n hx hb dX1_data_30 rfl (lv_at hl 0 rfl) ?_
          refine gm_get_dp C hw dX1_data_31 ?_
          refine lv_icmp_le (tgt := 40) hx hb dX1_data_34 (by decide) (fun c8 => ?_) (fun c8 => ?_)
          · have h := h.1 c8
            refine lv_iinc (v := (x2_1 + 1)) (lv' := [(2, .int (x2_1 + 1)), (0, .ref (a 0)), (1, .int x1_1)]) hx hb dX1_data_40 hl (k := 2) rfl rfl (by decide) rfl (fun ls hl => ?_)
            refine lv_goto (tgt := 4) hx hb dX1_data_43 (by decide) ?_
            exact ih_1 _ _ _ _ _ (Nat.lt_of_lt_of_le h.2 (Nat.le_of_lt_succ hk_1)) h.1 hw (lv_sub hl [1, 2, 0] rfl)
          · have h := h.2 c8
            refine lv_bipush (v := 10) hx hb dX1_data_37 (by decide) ?_
            refine lv_istore_n (lv' := [(1, .int 10), (0, .ref (a 0)), (2, .int x2_1)]) hx hb dX1_data_39 rfl hl (by decide) rfl (fun ls hl => ?_)
            refine lv_iinc (v := (x2_1 + 1)) (lv' := [(2, .int (x2_1 + 1)), (1, .int 10), (0, .ref (a 0))]) hx hb dX1_data_40 hl (k := 2) rfl rfl (by decide) rfl (fun ls hl => ?_)
            refine lv_goto (tgt := 4) hx hb dX1_data_43 (by decide) ?_
            exact ih_1 _ _ _ _ _ (Nat.lt_of_lt_of_le h.2 (Nat.le_of_lt_succ hk_1)) h.1 hw (lv_sub hl [2, 1, 0] rfl)
  exact loop_1 _ _ _ _ _ _ (Nat.lt_succ_self _) h0_1 hw (lv_sub hl [2, 1, 0] rfl)
set_option maxHeartbeats 4000000 in
set_option maxRecDepth 100000 in
theorem c_X1_nearest (l : Launch) (D : va_G) (a : Nat → Nat) (d : ClassId) (li : Nat → Int32) (le : Nat → Int32) (vs : Nat → Int32) (nd : Int32) (po : Nat → Int32) (dp : Int32) (z1 : Int32) (z2 : Int32) (z3 : Int32) {K : Int32 → Prop} (h : X1_nearest_w li le nd po z1 z2 z3 K) : CTi l yX1_nearest cX1_nearest 8 (some .int)  (gRm 1 23) D d [.ref (a 0), .int z1, .int z2, .int z3] (gM a d li le vs nd po dp) (S := Unit) (fun (r : Int32) (u : Unit) => K r) (fun u => gM a d li le vs nd po dp) := by
  refine gEnter_i (by decide) (Nat.le_of_ble_eq_true rfl) ?_
  intro p e s m args below meth c A Q ls C ret hl hw
  have C : gCx RX1 cX1_nearest 8 (some .int) D d A p s m args meth c := C
  have hx := C.1.1
  have hb := C.1.2.1
  have hown := C.1.2.2.2.1
  have hts := C.1.2.2.2.2
  have hl : lv_has ls 8 [(0, .ref (a 0)), (1, .int z1), (2, .int z2), (3, .int z3)] := hl
  unfold X1_nearest_w at h
  refine lv_bipush (v := (-100)) hx hb dX1_nearest_0 (by decide) ?_
  refine lv_istore (lv' := [(4, .int (-100)), (0, .ref (a 0)), (1, .int z1), (2, .int z2), (3, .int z3)]) hx hb dX1_nearest_2 hl (by decide) rfl (fun ls hl => ?_)
  refine lv_iconst (v := 0) hx hb dX1_nearest_4 (by decide) ?_
  refine lv_istore (lv' := [(5, .int 0), (4, .int (-100)), (0, .ref (a 0)), (1, .int z1), (2, .int z2), (3, .int z3)]) hx hb dX1_nearest_5 hl (by decide) rfl (fun ls hl => ?_)
  obtain ⟨I1, μ1, h0_1, hI_1⟩ := h
  have loop_1 : ∀ (k : Nat) (x4_1 : Int32) (x5_1 : Int32) (H : Heap) (locs : List Loc) (ls : Array Slot), μ1 x4_1 x5_1 < k → I1 x4_1 x5_1 → gSt D A s (gM a d li le vs nd po dp) H locs → lv_has ls 8 [(0, .ref (a 0)), (1, .int z1), (2, .int z2), (3, .int z3), (4, .int x4_1), (5, .int x5_1)] → W p l e (gRm 1 23) s m args below meth c H locs 0 0 Q (F0 m 7 ls []) := by
    intro k
    induction k with
    | zero => intro x4_1 x5_1 H locs ls hk; exact absurd hk (Nat.not_lt_zero _)
    | succ k ih_1 =>
      intro x4_1 x5_1 H locs ls hk_1 hi hw hl
      have h := hI_1 x4_1 x5_1 hi
      refine lv_iload hx hb dX1_nearest_7 (lv_at hl 5 rfl) ?_
      refine lv_aload_n hx hb dX1_nearest_9 rfl (lv_at hl 0 rfl) ?_
      refine gm_get_nd C hw dX1_nearest_10 ?_
      refine lv_icmp_ge (tgt := 98) hx hb dX1_nearest_13 (by decide) (fun c2 => ?_) (fun c2 => ?_)
      · have h := h.1 c2
        refine lv_iload hx hb dX1_nearest_98 (lv_at hl 4 rfl) ?_
        exact ret x4_1 () _ _ _ _ h rfl hw dX1_nearest_100
      · have h := h.2 c2
        refine lv_aload_n hx hb dX1_nearest_16 rfl (lv_at hl 0 rfl) ?_
        refine gm_get_li C hw dX1_nearest_17 ?_
        refine lv_iload hx hb dX1_nearest_20 (lv_at hl 5 rfl) ?_
        refine lv_iconst (v := 3) hx hb dX1_nearest_22 (by decide) ?_
        refine lv_imul hx hb dX1_nearest_23 ?_
        refine lv_iload_n hx hb dX1_nearest_24 rfl (lv_at hl 1 rfl) ?_
        refine lv_iadd hx hb dX1_nearest_25 ?_
        have b3 := h.1
        have h := h.2
        refine gm_ald_li C hw b3 dX1_nearest_26 ?_
        refine lv_istore (lv' := [(6, .int (li ((x5_1 * 3) + z1).toNatClampNeg)), (0, .ref (a 0)), (1, .int z1), (2, .int z2), (3, .int z3), (4, .int x4_1), (5, .int x5_1)]) hx hb dX1_nearest_27 hl (by decide) rfl (fun ls hl => ?_)
        refine lv_aload_n hx hb dX1_nearest_29 rfl (lv_at hl 1 rfl) ?_
        refine lv_iload hx hb dX1_nearest_30 (lv_at hl 6 rfl) ?_
        refine lv_iload_n hx hb dX1_nearest_32 rfl (lv_at hl 2 rfl) ?_
        refine g_callVi (rest := []) C (c_X1_begins l D a d _ _ _ _ _ _ x5_1 z1 h) 33 RX1 (lw_V q249 q251 qs16 q24 q252) (na := 2) (by decide +kernel) rfl (by decide) 1 rfl rfl rfl hw hl.1 rfl (Nat.le_of_ble_eq_true rfl) ⟨Nat.le_refl _, Nat.le_refl _⟩ dX1_nearest_33 (fun r_4 u_4 H locs h hw => ?_)
        refine lv_if_eq (tgt := 63) hx hb dX1_nearest_36 (by decide) (fun c5 => ?_) (fun c5 => ?_)
        · have h := h.1 c5
          refine lv_iconst (v := 0) hx hb dX1_nearest_63 (by decide) ?_
          refine lv_istore (lv' := [(7, .int 0), (6, .int (li ((x5_1 * 3) + z1).toNatClampNeg)), (0, .ref (a 0)), (1, .int z1), (2, .int z2), (3, .int z3), (4, .int x4_1), (5, .int x5_1)]) hx hb dX1_nearest_64 hl (by decide) rfl (fun ls hl => ?_)
          refine lv_iload hx hb dX1_nearest_66 (lv_at hl 0 rfl) ?_
          refine lv_if_eq (tgt := 92) hx hb dX1_nearest_68 (by decide) (fun c6 => ?_) (fun c6 => absurd (by decide) c6)
          refine lv_iinc (v := (x5_1 + 1)) (lv' := [(5, .int (x5_1 + 1)), (7, .int 0), (6, .int (li ((x5_1 * 3) + z1).toNatClampNeg)), (0, .ref (a 0)), (1, .int z1), (2, .int z2), (3, .int z3), (4, .int x4_1)]) hx hb dX1_nearest_92 hl (k := 7) rfl rfl (by decide) rfl (fun ls hl => ?_)
          refine lv_goto (tgt := 7) hx hb dX1_nearest_95 (by decide) ?_
          exact ih_1 _ _ _ _ _ (Nat.lt_of_lt_of_le h.2 (Nat.le_of_lt_succ hk_1)) h.1 hw (lv_sub hl [3, 4, 5, 6, 7, 0] rfl)
        · have h := h.2 c5
          refine lv_aload_n hx hb dX1_nearest_39 rfl (lv_at hl 1 rfl) ?_
          refine gm_get_le C hw dX1_nearest_40 ?_
          refine lv_iload hx hb dX1_nearest_43 (lv_at hl 6 rfl) ?_
          have b7 := h.1
          have h := h.2
          refine gm_ald_le C hw b7 dX1_nearest_45 ?_
          refine lv_iload_n hx hb dX1_nearest_46 rfl (lv_at hl 2 rfl) ?_
          refine lv_icmp_le (tgt := 63) hx hb dX1_nearest_47 (by decide) (fun c8 => ?_) (fun c8 => ?_)
          · have h := h.1 c8
            refine lv_iconst (v := 0) hx hb dX1_nearest_63 (by decide) ?_
            refine lv_istore (lv' := [(7, .int 0), (6, .int (li ((x5_1 * 3) + z1).toNatClampNeg)), (0, .ref (a 0)), (1, .int z1), (2, .int z2), (3, .int z3), (4, .int x4_1), (5, .int x5_1)]) hx hb dX1_nearest_64 hl (by decide) rfl (fun ls hl => ?_)
            refine lv_iload hx hb dX1_nearest_66 (lv_at hl 0 rfl) ?_
            refine lv_if_eq (tgt := 92) hx hb dX1_nearest_68 (by decide) (fun c9 => ?_) (fun c9 => absurd (by decide) c9)
            refine lv_iinc (v := (x5_1 + 1)) (lv' := [(5, .int (x5_1 + 1)), (7, .int 0), (6, .int (li ((x5_1 * 3) + z1).toNatClampNeg)), (0, .ref (a 0)), (1, .int z1), (2, .int z2), (3, .int z3), (4, .int x4_1)]) hx hb dX1_nearest_92 hl (k := 7) rfl rfl (by decide) rfl (fun ls hl => ?_)
            refine lv_goto (tgt := 7) hx hb dX1_nearest_95 (by decide) ?_
            exact ih_1 _ _ _ _ _ (Nat.lt_of_lt_of_le h.2 (Nat.le_of_lt_succ hk_1)) h.1 hw (lv_sub hl [3, 4, 5, 6, 7, 0] rfl)
          · have h := h.2 c8
            refine lv_iload hx hb dX1_nearest_50 (lv_at hl 0 rfl) ?_
            refine lv_iload_n hx hb dX1_nearest_52 rfl (lv_at hl 3 rfl) ?_
            refine lv_isub hx hb dX1_nearest_53 ?_
            refine lv_iload_n hx hb dX1_nearest_54 rfl (lv_at hl 4 rfl) ?_
            refine lv_imul hx hb dX1_nearest_55 ?_
            refine lv_if_le (tgt := 63) hx hb dX1_nearest_56 (by decide) (fun c10 => ?_) (fun c10 => ?_)
            · have h := h.1 c10
              refine lv_iconst (v := 0) hx hb dX1_nearest_63 (by decide) ?_
              refine lv_istore (lv' := [(7, .int 0), (6, .int (li ((x5_1 * 3) + z1).toNatClampNeg)), (0, .ref (a 0)), (1, .int z1), (2, .int z2), (3, .int z3), (4, .int x4_1), (5, .int x5_1)]) hx hb dX1_nearest_64 hl (by decide) rfl (fun ls hl => ?_)
              refine lv_iload hx hb dX1_nearest_66 (lv_at hl 0 rfl) ?_
              refine lv_if_eq (tgt := 92) hx hb dX1_nearest_68 (by decide) (fun c11 => ?_) (fun c11 => absurd (by decide) c11)
              refine lv_iinc (v := (x5_1 + 1)) (lv' := [(5, .int (x5_1 + 1)), (7, .int 0), (6, .int (li ((x5_1 * 3) + z1).toNatClampNeg)), (0, .ref (a 0)), (1, .int z1), (2, .int z2), (3, .int z3), (4, .int x4_1)]) hx hb dX1_nearest_92 hl (k := 7) rfl rfl (by decide) rfl (fun ls hl => ?_)
              refine lv_goto (tgt := 7) hx hb dX1_nearest_95 (by decide) ?_
              exact ih_1 _ _ _ _ _ (Nat.lt_of_lt_of_le h.2 (Nat.le_of_lt_succ hk_1)) h.1 hw (lv_sub hl [3, 4, 5, 6, 7, 0] rfl)
            · have h := h.2 c10
              refine lv_iconst (v := 1) hx hb dX1_nearest_59 (by decide) ?_
              refine lv_goto (tgt := 64) hx hb dX1_nearest_60 (by decide) ?_
              refine lv_istore (lv' := [(7, .int 1), (6, .int (li ((x5_1 * 3) + z1).toNatClampNeg)), (0, .ref (a 0)), (1, .int z1), (2, .int z2), (3, .int z3), (4, .int x4_1), (5, .int x5_1)]) hx hb dX1_nearest_64 hl (by decide) rfl (fun ls hl => ?_)
              refine lv_iload hx hb dX1_nearest_66 (lv_at hl 0 rfl) ?_
              refine lv_if_eq (tgt := 92) hx hb dX1_nearest_68 (by decide) (fun c12 => absurd c12 (by decide)) (fun c12 => ?_)
              refine lv_iload hx hb dX1_nearest_71 (lv_at hl 6 rfl) ?_
              refine lv_bipush (v := (-100)) hx hb dX1_nearest_73 (by decide) ?_
              refine lv_icmp_eq (tgt := 88) hx hb dX1_nearest_75 (by decide) (fun c13 => ?_) (fun c13 => ?_)
              · have h := h.1 c13
                refine lv_iload hx hb dX1_nearest_88 (lv_at hl 1 rfl) ?_
                refine lv_istore (lv' := [(4, .int (li ((x5_1 * 3) + z1).toNatClampNeg)), (7, .int 1), (6, .int (li ((x5_1 * 3) + z1).toNatClampNeg)), (0, .ref (a 0)), (1, .int z1), (2, .int z2), (3, .int z3), (5, .int x5_1)]) hx hb dX1_nearest_90 hl (by decide) rfl (fun ls hl => ?_)
                refine lv_iinc (v := (x5_1 + 1)) (lv' := [(5, .int (x5_1 + 1)), (4, .int (li ((x5_1 * 3) + z1).toNatClampNeg)), (7, .int 1), (6, .int (li ((x5_1 * 3) + z1).toNatClampNeg)), (0, .ref (a 0)), (1, .int z1), (2, .int z2), (3, .int z3)]) hx hb dX1_nearest_92 hl (k := 7) rfl rfl (by decide) rfl (fun ls hl => ?_)
                refine lv_goto (tgt := 7) hx hb dX1_nearest_95 (by decide) ?_
                exact ih_1 _ _ _ _ _ (Nat.lt_of_lt_of_le h.2 (Nat.le_of_lt_succ hk_1)) h.1 hw (lv_sub hl [4, 5, 6, 7, 1, 0] rfl)
              · have h := h.2 c13
                refine lv_iload hx hb dX1_nearest_78 (lv_at hl 6 rfl) ?_
                refine lv_iload hx hb dX1_nearest_80 (lv_at hl 1 rfl) ?_
                refine lv_isub hx hb dX1_nearest_82 ?_
                refine lv_iload_n hx hb dX1_nearest_83 rfl (lv_at hl 5 rfl) ?_
                refine lv_imul hx hb dX1_nearest_84 ?_
                refine lv_if_le (tgt := 92) hx hb dX1_nearest_85 (by decide) (fun c14 => ?_) (fun c14 => ?_)
                · have h := h.1 c14
                  refine lv_iinc (v := (x5_1 + 1)) (lv' := [(5, .int (x5_1 + 1)), (7, .int 1), (6, .int (li ((x5_1 * 3) + z1).toNatClampNeg)), (0, .ref (a 0)), (1, .int z1), (2, .int z2), (3, .int z3), (4, .int x4_1)]) hx hb dX1_nearest_92 hl (k := 7) rfl rfl (by decide) rfl (fun ls hl => ?_)
                  refine lv_goto (tgt := 7) hx hb dX1_nearest_95 (by decide) ?_
                  exact ih_1 _ _ _ _ _ (Nat.lt_of_lt_of_le h.2 (Nat.le_of_lt_succ hk_1)) h.1 hw (lv_sub hl [3, 4, 5, 6, 7, 0] rfl)
                · have h := h.2 c14
                  refine lv_iload hx hb dX1_nearest_88 (lv_at hl 1 rfl) ?_
                  refine lv_istore (lv' := [(4, .int (li ((x5_1 * 3) + z1).toNatClampNeg)), (7, .int 1), (6, .int (li ((x5_1 * 3) + z1).toNatClampNeg)), (0, .ref (a 0)), (1, .int z1), (2, .int z2), (3, .int z3), (5, .int x5_1)]) hx hb dX1_nearest_90 hl (by decide) rfl (fun ls hl => ?_)
                  refine lv_iinc (v := (x5_1 + 1)) (lv' := [(5, .int (x5_1 + 1)), (4, .int (li ((x5_1 * 3) + z1).toNatClampNeg)), (7, .int 1), (6, .int (li ((x5_1 * 3) + z1).toNatClampNeg)), (0, .ref (a 0)), (1, .int z1), (2, .int z2), (3, .int z3)]) hx hb dX1_nearest_92 hl (k := 7) rfl rfl (by decide) rfl (fun ls hl => ?_)
                  refine lv_goto (tgt := 7) hx hb dX1_nearest_95 (by decide) ?_
                  exact ih_1 _ _ _ _ _ (Nat.lt_of_lt_of_le h.2 (Nat.le_of_lt_succ hk_1)) h.1 hw (lv_sub hl [4, 5, 6, 7, 1, 0] rfl)
  exact loop_1 _ _ _ _ _ _ (Nat.lt_succ_self _) h0_1 hw (lv_sub hl [2, 3, 4, 5, 1, 0] rfl)
set_option maxHeartbeats 4000000 in
set_option maxRecDepth 100000 in
theorem c_X1_next (l : Launch) (D : va_G) (a : Nat → Nat) (d : ClassId) (li : Nat → Int32) (le : Nat → Int32) (vs : Nat → Int32) (nd : Int32) (po : Nat → Int32) (dp : Int32) {K : Int32 → Prop} (h : X1_next_w li le nd po dp K) : CTi l yX1_next cX1_next 1 (some .int)  (gRm 2 50) D d [.ref (a 0)] (gM a d li le vs nd po dp) (S := Unit) (fun (r : Int32) (u : Unit) => K r) (fun u => gM a d li le vs nd po dp) := by
  refine gEnter_i (by decide) (Nat.le_of_ble_eq_true rfl) ?_
  intro p e s m args below meth c A Q ls C ret hl hw
  have C : gCx RX1 cX1_next 1 (some .int) D d A p s m args meth c := C
  have hx := C.1.1
  have hb := C.1.2.1
  have hown := C.1.2.2.2.1
  have hts := C.1.2.2.2.2
  have hl : lv_has ls 1 [(0, .ref (a 0))] := hl
  unfold X1_next_w at h
  refine lv_aload_n hx hb dX1_next_0 rfl (lv_at hl 0 rfl) ?_
  refine gm_get_dp C hw dX1_next_1 ?_
  refine lv_if_ne (tgt := 12) hx hb dX1_next_4 (by decide) (fun c1 => ?_) (fun c1 => ?_)
  · have h := h.1 c1
    refine lv_aload_n hx hb dX1_next_12 rfl (lv_at hl 0 rfl) ?_
    refine lv_aload_n hx hb dX1_next_13 rfl (lv_at hl 0 rfl) ?_
    refine gm_get_dp C hw dX1_next_14 ?_
    refine lv_iconst (v := 1) hx hb dX1_next_17 (by decide) ?_
    refine lv_isub hx hb dX1_next_18 ?_
    refine lv_aload_n hx hb dX1_next_19 rfl (lv_at hl 0 rfl) ?_
    refine gm_get_po C hw dX1_next_20 ?_
    refine lv_aload_n hx hb dX1_next_23 rfl (lv_at hl 0 rfl) ?_
    refine gm_get_dp C hw dX1_next_24 ?_
    refine lv_iconst (v := 1) hx hb dX1_next_27 (by decide) ?_
    refine lv_isub hx hb dX1_next_28 ?_
    have b2 := h.1
    have h := h.2
    refine gm_ald_po C hw b2 dX1_next_29 ?_
    refine lv_iconst (v := 1) hx hb dX1_next_30 (by decide) ?_
    refine g_callVi (rest := []) C (c_X1_nearest l D a d _ _ _ _ _ _ (dp - 1) (po (dp - 1).toNatClampNeg) 1 h) 56 RX1 (lw_V q287 q289 qs19 q24 q290) (na := 3) (by decide +kernel) rfl (by decide) 1 rfl rfl rfl hw hl.1 rfl (Nat.le_of_ble_eq_true rfl) ⟨Nat.le_refl _, Nat.le_refl _⟩ dX1_next_31 (fun r_3 u_3 H locs h hw => ?_)
    exact ret r_3 () _ _ _ _ h rfl hw dX1_next_34
  · have h := h.2 c1
    refine lv_bipush (v := (-100)) hx hb dX1_next_7 (by decide) ?_
    refine lv_goto (tgt := 34) hx hb dX1_next_9 (by decide) ?_
    exact ret (-100) () _ _ _ _ h rfl hw dX1_next_34
set_option maxHeartbeats 4000000 in
set_option maxRecDepth 100000 in
theorem c_X1_previous (l : Launch) (D : va_G) (a : Nat → Nat) (d : ClassId) (li : Nat → Int32) (le : Nat → Int32) (vs : Nat → Int32) (nd : Int32) (po : Nat → Int32) (dp : Int32) {K : Int32 → Prop} (h : X1_previous_w li le nd po dp K) : CTi l yX1_previous cX1_previous 1 (some .int)  (gRm 2 50) D d [.ref (a 0)] (gM a d li le vs nd po dp) (S := Unit) (fun (r : Int32) (u : Unit) => K r) (fun u => gM a d li le vs nd po dp) := by
  refine gEnter_i (by decide) (Nat.le_of_ble_eq_true rfl) ?_
  intro p e s m args below meth c A Q ls C ret hl hw
  have C : gCx RX1 cX1_previous 1 (some .int) D d A p s m args meth c := C
  have hx := C.1.1
  have hb := C.1.2.1
  have hown := C.1.2.2.2.1
  have hts := C.1.2.2.2.2
  have hl : lv_has ls 1 [(0, .ref (a 0))] := hl
  unfold X1_previous_w at h
  refine lv_aload_n hx hb dX1_previous_0 rfl (lv_at hl 0 rfl) ?_
  refine gm_get_dp C hw dX1_previous_1 ?_
  refine lv_if_ne (tgt := 12) hx hb dX1_previous_4 (by decide) (fun c1 => ?_) (fun c1 => ?_)
  · have h := h.1 c1
    refine lv_aload_n hx hb dX1_previous_12 rfl (lv_at hl 0 rfl) ?_
    refine lv_aload_n hx hb dX1_previous_13 rfl (lv_at hl 0 rfl) ?_
    refine gm_get_dp C hw dX1_previous_14 ?_
    refine lv_iconst (v := 1) hx hb dX1_previous_17 (by decide) ?_
    refine lv_isub hx hb dX1_previous_18 ?_
    refine lv_aload_n hx hb dX1_previous_19 rfl (lv_at hl 0 rfl) ?_
    refine gm_get_po C hw dX1_previous_20 ?_
    refine lv_aload_n hx hb dX1_previous_23 rfl (lv_at hl 0 rfl) ?_
    refine gm_get_dp C hw dX1_previous_24 ?_
    refine lv_iconst (v := 1) hx hb dX1_previous_27 (by decide) ?_
    refine lv_isub hx hb dX1_previous_28 ?_
    have b2 := h.1
    have h := h.2
    refine gm_ald_po C hw b2 dX1_previous_29 ?_
    refine lv_iconst (v := (-1)) hx hb dX1_previous_30 (by decide) ?_
    refine g_callVi (rest := []) C (c_X1_nearest l D a d _ _ _ _ _ _ (dp - 1) (po (dp - 1).toNatClampNeg) (-1) h) 56 RX1 (lw_V q287 q289 qs19 q24 q290) (na := 3) (by decide +kernel) rfl (by decide) 1 rfl rfl rfl hw hl.1 rfl (Nat.le_of_ble_eq_true rfl) ⟨Nat.le_refl _, Nat.le_refl _⟩ dX1_previous_31 (fun r_3 u_3 H locs h hw => ?_)
    exact ret r_3 () _ _ _ _ h rfl hw dX1_previous_34
  · have h := h.2 c1
    refine lv_bipush (v := (-100)) hx hb dX1_previous_7 (by decide) ?_
    refine lv_goto (tgt := 34) hx hb dX1_previous_9 (by decide) ?_
    exact ret (-100) () _ _ _ _ h rfl hw dX1_previous_34
set_option maxHeartbeats 4000000 in
set_option maxRecDepth 100000 in
theorem c_X1_first (l : Launch) (D : va_G) (a : Nat → Nat) (d : ClassId) (li : Nat → Int32) (le : Nat → Int32) (vs : Nat → Int32) (nd : Int32) (po : Nat → Int32) (dp : Int32) {K : Int32 → Prop} (h : X1_first_w li le nd po dp K) : CTi l yX1_first cX1_first 1 (some .int)  (gRm 2 50) D d [.ref (a 0)] (gM a d li le vs nd po dp) (S := Unit) (fun (r : Int32) (u : Unit) => K r) (fun u => gM a d li le vs nd po dp) := by
  refine gEnter_i (by decide) (Nat.le_of_ble_eq_true rfl) ?_
  intro p e s m args below meth c A Q ls C ret hl hw
  have C : gCx RX1 cX1_first 1 (some .int) D d A p s m args meth c := C
  have hx := C.1.1
  have hb := C.1.2.1
  have hown := C.1.2.2.2.1
  have hts := C.1.2.2.2.2
  have hl : lv_has ls 1 [(0, .ref (a 0))] := hl
  unfold X1_first_w at h
  refine lv_aload_n hx hb dX1_first_0 rfl (lv_at hl 0 rfl) ?_
  refine gm_get_dp C hw dX1_first_1 ?_
  refine lv_iconst (v := 3) hx hb dX1_first_4 (by decide) ?_
  refine lv_icmp_ne (tgt := 13) hx hb dX1_first_5 (by decide) (fun c1 => ?_) (fun c1 => ?_)
  · have h := h.1 c1
    refine lv_aload_n hx hb dX1_first_13 rfl (lv_at hl 0 rfl) ?_
    refine lv_aload_n hx hb dX1_first_14 rfl (lv_at hl 0 rfl) ?_
    refine gm_get_dp C hw dX1_first_15 ?_
    refine lv_bipush (v := (-51)) hx hb dX1_first_18 (by decide) ?_
    refine lv_iconst (v := 1) hx hb dX1_first_20 (by decide) ?_
    refine g_callVi (rest := []) C (c_X1_nearest l D a d _ _ _ _ _ _ dp (-51) 1 h) 56 RX1 (lw_V q287 q289 qs19 q24 q290) (na := 3) (by decide +kernel) rfl (by decide) 1 rfl rfl rfl hw hl.1 rfl (Nat.le_of_ble_eq_true rfl) ⟨Nat.le_refl _, Nat.le_refl _⟩ dX1_first_21 (fun r_2 u_2 H locs h hw => ?_)
    exact ret r_2 () _ _ _ _ h rfl hw dX1_first_24
  · have h := h.2 c1
    refine lv_bipush (v := (-100)) hx hb dX1_first_8 (by decide) ?_
    refine lv_goto (tgt := 24) hx hb dX1_first_10 (by decide) ?_
    exact ret (-100) () _ _ _ _ h rfl hw dX1_first_24
end
section
set_option maxHeartbeats 4000000 in
set_option maxRecDepth 100000 in
theorem c_X1_order (l : Launch) (D : va_G) (a : Nat → Nat) (d : ClassId) (li : Nat → Int32) (le : Nat → Int32) (vs : Nat → Int32) (nd : Int32) (po : Nat → Int32) (dp : Int32) (z1 : Int32) {K : Int32 → Prop} (h : X1_order_w li le po dp z1 K) : CTi l yX1_order cX1_order 5 (some .int)  (gRm 0 0) D d [.ref (a 0), .int z1] (gM a d li le vs nd po dp) (S := Unit) (fun (r : Int32) (u : Unit) => K r) (fun u => gM a d li le vs nd po dp) := by
  refine gEnter_i (by decide) (Nat.le_of_ble_eq_true rfl) ?_
  intro p e s m args below meth c A Q ls C ret hl hw
  have C : gCx RX1 cX1_order 5 (some .int) D d A p s m args meth c := C
  have hx := C.1.1
  have hb := C.1.2.1
  have hown := C.1.2.2.2.1
  have hts := C.1.2.2.2.2
  have hl : lv_has ls 5 [(0, .ref (a 0)), (1, .int z1)] := hl
  unfold X1_order_w at h
  refine lv_iconst (v := 0) hx hb dX1_order_0 (by decide) ?_
  refine lv_istore_n (lv' := [(2, .int 0), (0, .ref (a 0)), (1, .int z1)]) hx hb dX1_order_1 rfl hl (by decide) rfl (fun ls hl => ?_)
  obtain ⟨I1, μ1, h0_1, hI_1⟩ := h
  have loop_1 : ∀ (k : Nat) (x2_1 : Int32) (H : Heap) (locs : List Loc) (ls : Array Slot), μ1 x2_1 < k → I1 x2_1 → gSt D A s (gM a d li le vs nd po dp) H locs → lv_has ls 5 [(0, .ref (a 0)), (1, .int z1), (2, .int x2_1)] → W p l e (gRm 0 0) s m args below meth c H locs 0 0 Q (F0 m 2 ls []) := by
    intro k
    induction k with
    | zero => intro x2_1 H locs ls hk; exact absurd hk (Nat.not_lt_zero _)
    | succ k ih_1 =>
      intro x2_1 H locs ls hk_1 hi hw hl
      have h := hI_1 x2_1 hi
      refine lv_iload_n hx hb dX1_order_2 rfl (lv_at hl 2 rfl) ?_
      refine lv_iconst (v := 3) hx hb dX1_order_3 (by decide) ?_
      refine lv_icmp_ge (tgt := 78) hx hb dX1_order_4 (by decide) (fun c2 => ?_) (fun c2 => ?_)
      · have h := h.1 c2
        refine lv_iconst (v := 0) hx hb dX1_order_78 (by decide) ?_
        exact ret 0 () _ _ _ _ h rfl hw dX1_order_79
      · have h := h.2 c2
        obtain ⟨J3, hJ_3, h⟩ := h
        have join_3 : ∀ (x3_3 : Int32) (H : Heap) (locs : List Loc) (ls : Array Slot), J3 x3_3 → gSt D A s (gM a d li le vs nd po dp) H locs → lv_has ls 5 [(0, .ref (a 0)), (1, .int z1), (2, .int x2_1), (3, .int x3_3)] → W p l e (gRm 0 0) s m args below meth c H locs 0 0 Q (F0 m 33 ls []) := by
          intro x3_3 H locs ls hi hw hl
          have h := hJ_3 x3_3 hi
          refine lv_iload_n hx hb dX1_order_33 rfl (lv_at hl 2 rfl) ?_
          refine lv_aload_n hx hb dX1_order_34 rfl (lv_at hl 0 rfl) ?_
          refine gm_get_dp C hw dX1_order_35 ?_
          refine lv_icmp_ge (tgt := 50) hx hb dX1_order_38 (by decide) (fun c4 => ?_) (fun c4 => ?_)
          · have h := h.1 c4
            refine lv_bipush (v := (-51)) hx hb dX1_order_50 (by decide) ?_
            refine lv_istore (lv' := [(4, .int (-51)), (0, .ref (a 0)), (1, .int z1), (2, .int x2_1), (3, .int x3_3)]) hx hb dX1_order_52 hl (by decide) rfl (fun ls hl => ?_)
            refine lv_iload_n hx hb dX1_order_54 rfl (lv_at hl 4 rfl) ?_
            refine lv_iload hx hb dX1_order_55 (lv_at hl 0 rfl) ?_
            refine lv_icmp_eq (tgt := 72) hx hb dX1_order_57 (by decide) (fun c5 => ?_) (fun c5 => ?_)
            · have h := h.1 c5
              refine lv_iinc (v := (x2_1 + 1)) (lv' := [(2, .int (x2_1 + 1)), (4, .int (-51)), (0, .ref (a 0)), (1, .int z1), (3, .int x3_3)]) hx hb dX1_order_72 hl (k := 3) rfl rfl (by decide) rfl (fun ls hl => ?_)
              refine lv_goto (tgt := 2) hx hb dX1_order_75 (by decide) ?_
              exact ih_1 _ _ _ _ (Nat.lt_of_lt_of_le h.2 (Nat.le_of_lt_succ hk_1)) h.1 hw (lv_sub hl [2, 3, 0] rfl)
            · have h := h.2 c5
              refine lv_iload_n hx hb dX1_order_60 rfl (lv_at hl 4 rfl) ?_
              refine lv_iload hx hb dX1_order_61 (lv_at hl 0 rfl) ?_
              refine lv_icmp_ge (tgt := 70) hx hb dX1_order_63 (by decide) (fun c6 => ?_) (fun c6 => ?_)
              · have h := h.1 c6
                refine lv_iconst (v := 1) hx hb dX1_order_70 (by decide) ?_
                exact ret 1 () _ _ _ _ h rfl hw dX1_order_71
              · have h := h.2 c6
                refine lv_iconst (v := (-1)) hx hb dX1_order_66 (by decide) ?_
                refine lv_goto (tgt := 71) hx hb dX1_order_67 (by decide) ?_
                exact ret (-1) () _ _ _ _ h rfl hw dX1_order_71
          · have h := h.2 c4
            refine lv_aload_n hx hb dX1_order_41 rfl (lv_at hl 0 rfl) ?_
            refine gm_get_po C hw dX1_order_42 ?_
            refine lv_iload_n hx hb dX1_order_45 rfl (lv_at hl 2 rfl) ?_
            have b7 := h.1
            have h := h.2
            refine gm_ald_po C hw b7 dX1_order_46 ?_
            refine lv_goto (tgt := 52) hx hb dX1_order_47 (by decide) ?_
            refine lv_istore (lv' := [(4, .int (po x2_1.toNatClampNeg)), (0, .ref (a 0)), (1, .int z1), (2, .int x2_1), (3, .int x3_3)]) hx hb dX1_order_52 hl (by decide) rfl (fun ls hl => ?_)
            refine lv_iload_n hx hb dX1_order_54 rfl (lv_at hl 4 rfl) ?_
            refine lv_iload hx hb dX1_order_55 (lv_at hl 0 rfl) ?_
            refine lv_icmp_eq (tgt := 72) hx hb dX1_order_57 (by decide) (fun c8 => ?_) (fun c8 => ?_)
            · have h := h.1 c8
              refine lv_iinc (v := (x2_1 + 1)) (lv' := [(2, .int (x2_1 + 1)), (4, .int (po x2_1.toNatClampNeg)), (0, .ref (a 0)), (1, .int z1), (3, .int x3_3)]) hx hb dX1_order_72 hl (k := 3) rfl rfl (by decide) rfl (fun ls hl => ?_)
              refine lv_goto (tgt := 2) hx hb dX1_order_75 (by decide) ?_
              exact ih_1 _ _ _ _ (Nat.lt_of_lt_of_le h.2 (Nat.le_of_lt_succ hk_1)) h.1 hw (lv_sub hl [2, 3, 0] rfl)
            · have h := h.2 c8
              refine lv_iload_n hx hb dX1_order_60 rfl (lv_at hl 4 rfl) ?_
              refine lv_iload hx hb dX1_order_61 (lv_at hl 0 rfl) ?_
              refine lv_icmp_ge (tgt := 70) hx hb dX1_order_63 (by decide) (fun c9 => ?_) (fun c9 => ?_)
              · have h := h.1 c9
                refine lv_iconst (v := 1) hx hb dX1_order_70 (by decide) ?_
                exact ret 1 () _ _ _ _ h rfl hw dX1_order_71
              · have h := h.2 c9
                refine lv_iconst (v := (-1)) hx hb dX1_order_66 (by decide) ?_
                refine lv_goto (tgt := 71) hx hb dX1_order_67 (by decide) ?_
                exact ret (-1) () _ _ _ _ h rfl hw dX1_order_71
        refine lv_iload_n hx hb dX1_order_7 rfl (lv_at hl 2 rfl) ?_
        refine lv_aload_n hx hb dX1_order_8 rfl (lv_at hl 0 rfl) ?_
        refine gm_get_le C hw dX1_order_9 ?_
        refine lv_iload_n hx hb dX1_order_12 rfl (lv_at hl 1 rfl) ?_
        have b10 := h.1
        have h := h.2
        refine gm_ald_le C hw b10 dX1_order_13 ?_
        refine lv_icmp_ge (tgt := 30) hx hb dX1_order_14 (by decide) (fun c11 => ?_) (fun c11 => ?_)
        · have h := h.1 c11
          refine lv_bipush (v := (-51)) hx hb dX1_order_30 (by decide) ?_
          refine lv_istore_n (lv' := [(3, .int (-51)), (0, .ref (a 0)), (1, .int z1), (2, .int x2_1)]) hx hb dX1_order_32 rfl hl (by decide) rfl (fun ls hl => ?_)
          exact join_3 _ _ _ _ h hw (lv_sub hl [1, 2, 3, 0] rfl)
        · have h := h.2 c11
          refine lv_aload_n hx hb dX1_order_17 rfl (lv_at hl 0 rfl) ?_
          refine gm_get_li C hw dX1_order_18 ?_
          refine lv_iload_n hx hb dX1_order_21 rfl (lv_at hl 1 rfl) ?_
          refine lv_iconst (v := 3) hx hb dX1_order_22 (by decide) ?_
          refine lv_imul hx hb dX1_order_23 ?_
          refine lv_iload_n hx hb dX1_order_24 rfl (lv_at hl 2 rfl) ?_
          refine lv_iadd hx hb dX1_order_25 ?_
          have b12 := h.1
          have h := h.2
          refine gm_ald_li C hw b12 dX1_order_26 ?_
          refine lv_goto (tgt := 32) hx hb dX1_order_27 (by decide) ?_
          refine lv_istore_n (lv' := [(3, .int (li ((z1 * 3) + x2_1).toNatClampNeg)), (0, .ref (a 0)), (1, .int z1), (2, .int x2_1)]) hx hb dX1_order_32 rfl hl (by decide) rfl (fun ls hl => ?_)
          exact join_3 _ _ _ _ h hw (lv_sub hl [1, 2, 3, 0] rfl)
  exact loop_1 _ _ _ _ _ (Nat.lt_succ_self _) h0_1 hw (lv_sub hl [1, 2, 0] rfl)
set_option maxHeartbeats 4000000 in
set_option maxRecDepth 100000 in
theorem c_X1_earlier (l : Launch) (D : va_G) (a : Nat → Nat) (d : ClassId) (li : Nat → Int32) (le : Nat → Int32) (vs : Nat → Int32) (nd : Int32) (po : Nat → Int32) (dp : Int32) (z1 : Int32) (z2 : Int32) {K : Int32 → Prop} (h : X1_earlier_w li le z1 z2 K) : CTi l yX1_earlier cX1_earlier 6 (some .boolean)  (gRm 0 0) D d [.ref (a 0), .int z1, .int z2] (gM a d li le vs nd po dp) (S := Unit) (fun (r : Int32) (u : Unit) => K r) (fun u => gM a d li le vs nd po dp) := by
  refine gEnter_i (by decide) (Nat.le_of_ble_eq_true rfl) ?_
  intro p e s m args below meth c A Q ls C ret hl hw
  have C : gCx RX1 cX1_earlier 6 (some .boolean) D d A p s m args meth c := C
  have hx := C.1.1
  have hb := C.1.2.1
  have hown := C.1.2.2.2.1
  have hts := C.1.2.2.2.2
  have hl : lv_has ls 6 [(0, .ref (a 0)), (1, .int z1), (2, .int z2)] := hl
  unfold X1_earlier_w at h
  refine lv_iconst (v := 0) hx hb dX1_earlier_0 (by decide) ?_
  refine lv_istore_n (lv' := [(3, .int 0), (0, .ref (a 0)), (1, .int z1), (2, .int z2)]) hx hb dX1_earlier_1 rfl hl (by decide) rfl (fun ls hl => ?_)
  obtain ⟨I1, μ1, h0_1, hI_1⟩ := h
  have loop_1 : ∀ (k : Nat) (x3_1 : Int32) (H : Heap) (locs : List Loc) (ls : Array Slot), μ1 x3_1 < k → I1 x3_1 → gSt D A s (gM a d li le vs nd po dp) H locs → lv_has ls 6 [(0, .ref (a 0)), (1, .int z1), (2, .int z2), (3, .int x3_1)] → W p l e (gRm 0 0) s m args below meth c H locs 0 0 Q (F0 m 2 ls []) := by
    intro k
    induction k with
    | zero => intro x3_1 H locs ls hk; exact absurd hk (Nat.not_lt_zero _)
    | succ k ih_1 =>
      intro x3_1 H locs ls hk_1 hi hw hl
      have h := hI_1 x3_1 hi
      refine lv_iload_n hx hb dX1_earlier_2 rfl (lv_at hl 3 rfl) ?_
      refine lv_iconst (v := 3) hx hb dX1_earlier_3 (by decide) ?_
      refine lv_icmp_ge (tgt := 87) hx hb dX1_earlier_4 (by decide) (fun c2 => ?_) (fun c2 => ?_)
      · have h := h.1 c2
        refine lv_iconst (v := 0) hx hb dX1_earlier_87 (by decide) ?_
        exact ret 0 () _ _ _ _ h rfl hw dX1_earlier_88
      · have h := h.2 c2
        obtain ⟨J3, hJ_3, h⟩ := h
        have join_3 : ∀ (x4_3 : Int32) (H : Heap) (locs : List Loc) (ls : Array Slot), J3 x4_3 → gSt D A s (gM a d li le vs nd po dp) H locs → lv_has ls 6 [(0, .ref (a 0)), (1, .int z1), (2, .int z2), (3, .int x3_1), (4, .int x4_3)] → W p l e (gRm 0 0) s m args below meth c H locs 0 0 Q (F0 m 34 ls []) := by
          intro x4_3 H locs ls hi hw hl
          have h := hJ_3 x4_3 hi
          refine lv_iload_n hx hb dX1_earlier_34 rfl (lv_at hl 3 rfl) ?_
          refine lv_aload_n hx hb dX1_earlier_35 rfl (lv_at hl 0 rfl) ?_
          refine gm_get_le C hw dX1_earlier_36 ?_
          refine lv_iload_n hx hb dX1_earlier_39 rfl (lv_at hl 2 rfl) ?_
          have b4 := h.1
          have h := h.2
          refine gm_ald_le C hw b4 dX1_earlier_40 ?_
          refine lv_icmp_ge (tgt := 57) hx hb dX1_earlier_41 (by decide) (fun c5 => ?_) (fun c5 => ?_)
          · have h := h.1 c5
            refine lv_bipush (v := (-51)) hx hb dX1_earlier_57 (by decide) ?_
            refine lv_istore (lv' := [(5, .int (-51)), (0, .ref (a 0)), (1, .int z1), (2, .int z2), (3, .int x3_1), (4, .int x4_3)]) hx hb dX1_earlier_59 hl (by decide) rfl (fun ls hl => ?_)
            refine lv_iload hx hb dX1_earlier_61 (lv_at hl 5 rfl) ?_
            refine lv_iload hx hb dX1_earlier_63 (lv_at hl 0 rfl) ?_
            refine lv_icmp_eq (tgt := 81) hx hb dX1_earlier_65 (by decide) (fun c6 => ?_) (fun c6 => ?_)
            · have h := h.1 c6
              refine lv_iinc (v := (x3_1 + 1)) (lv' := [(3, .int (x3_1 + 1)), (5, .int (-51)), (0, .ref (a 0)), (1, .int z1), (2, .int z2), (4, .int x4_3)]) hx hb dX1_earlier_81 hl (k := 4) rfl rfl (by decide) rfl (fun ls hl => ?_)
              refine lv_goto (tgt := 2) hx hb dX1_earlier_84 (by decide) ?_
              exact ih_1 _ _ _ _ (Nat.lt_of_lt_of_le h.2 (Nat.le_of_lt_succ hk_1)) h.1 hw (lv_sub hl [2, 3, 4, 0] rfl)
            · have h := h.2 c6
              refine lv_iload hx hb dX1_earlier_68 (lv_at hl 5 rfl) ?_
              refine lv_iload hx hb dX1_earlier_70 (lv_at hl 0 rfl) ?_
              refine lv_icmp_ge (tgt := 79) hx hb dX1_earlier_72 (by decide) (fun c7 => ?_) (fun c7 => ?_)
              · have h := h.1 c7
                refine lv_iconst (v := 0) hx hb dX1_earlier_79 (by decide) ?_
                exact ret 0 () _ _ _ _ h rfl hw dX1_earlier_80
              · have h := h.2 c7
                refine lv_iconst (v := 1) hx hb dX1_earlier_75 (by decide) ?_
                refine lv_goto (tgt := 80) hx hb dX1_earlier_76 (by decide) ?_
                exact ret 1 () _ _ _ _ h rfl hw dX1_earlier_80
          · have h := h.2 c5
            refine lv_aload_n hx hb dX1_earlier_44 rfl (lv_at hl 0 rfl) ?_
            refine gm_get_li C hw dX1_earlier_45 ?_
            refine lv_iload_n hx hb dX1_earlier_48 rfl (lv_at hl 2 rfl) ?_
            refine lv_iconst (v := 3) hx hb dX1_earlier_49 (by decide) ?_
            refine lv_imul hx hb dX1_earlier_50 ?_
            refine lv_iload_n hx hb dX1_earlier_51 rfl (lv_at hl 3 rfl) ?_
            refine lv_iadd hx hb dX1_earlier_52 ?_
            have b8 := h.1
            have h := h.2
            refine gm_ald_li C hw b8 dX1_earlier_53 ?_
            refine lv_goto (tgt := 59) hx hb dX1_earlier_54 (by decide) ?_
            refine lv_istore (lv' := [(5, .int (li ((z2 * 3) + x3_1).toNatClampNeg)), (0, .ref (a 0)), (1, .int z1), (2, .int z2), (3, .int x3_1), (4, .int x4_3)]) hx hb dX1_earlier_59 hl (by decide) rfl (fun ls hl => ?_)
            refine lv_iload hx hb dX1_earlier_61 (lv_at hl 5 rfl) ?_
            refine lv_iload hx hb dX1_earlier_63 (lv_at hl 0 rfl) ?_
            refine lv_icmp_eq (tgt := 81) hx hb dX1_earlier_65 (by decide) (fun c9 => ?_) (fun c9 => ?_)
            · have h := h.1 c9
              refine lv_iinc (v := (x3_1 + 1)) (lv' := [(3, .int (x3_1 + 1)), (5, .int (li ((z2 * 3) + x3_1).toNatClampNeg)), (0, .ref (a 0)), (1, .int z1), (2, .int z2), (4, .int x4_3)]) hx hb dX1_earlier_81 hl (k := 4) rfl rfl (by decide) rfl (fun ls hl => ?_)
              refine lv_goto (tgt := 2) hx hb dX1_earlier_84 (by decide) ?_
              exact ih_1 _ _ _ _ (Nat.lt_of_lt_of_le h.2 (Nat.le_of_lt_succ hk_1)) h.1 hw (lv_sub hl [2, 3, 4, 0] rfl)
            · have h := h.2 c9
              refine lv_iload hx hb dX1_earlier_68 (lv_at hl 5 rfl) ?_
              refine lv_iload hx hb dX1_earlier_70 (lv_at hl 0 rfl) ?_
              refine lv_icmp_ge (tgt := 79) hx hb dX1_earlier_72 (by decide) (fun c10 => ?_) (fun c10 => ?_)
              · have h := h.1 c10
                refine lv_iconst (v := 0) hx hb dX1_earlier_79 (by decide) ?_
                exact ret 0 () _ _ _ _ h rfl hw dX1_earlier_80
              · have h := h.2 c10
                refine lv_iconst (v := 1) hx hb dX1_earlier_75 (by decide) ?_
                refine lv_goto (tgt := 80) hx hb dX1_earlier_76 (by decide) ?_
                exact ret 1 () _ _ _ _ h rfl hw dX1_earlier_80
        refine lv_iload_n hx hb dX1_earlier_7 rfl (lv_at hl 3 rfl) ?_
        refine lv_aload_n hx hb dX1_earlier_8 rfl (lv_at hl 0 rfl) ?_
        refine gm_get_le C hw dX1_earlier_9 ?_
        refine lv_iload_n hx hb dX1_earlier_12 rfl (lv_at hl 1 rfl) ?_
        have b11 := h.1
        have h := h.2
        refine gm_ald_le C hw b11 dX1_earlier_13 ?_
        refine lv_icmp_ge (tgt := 30) hx hb dX1_earlier_14 (by decide) (fun c12 => ?_) (fun c12 => ?_)
        · have h := h.1 c12
          refine lv_bipush (v := (-51)) hx hb dX1_earlier_30 (by decide) ?_
          refine lv_istore (lv' := [(4, .int (-51)), (0, .ref (a 0)), (1, .int z1), (2, .int z2), (3, .int x3_1)]) hx hb dX1_earlier_32 hl (by decide) rfl (fun ls hl => ?_)
          exact join_3 _ _ _ _ h hw (lv_sub hl [1, 2, 3, 4, 0] rfl)
        · have h := h.2 c12
          refine lv_aload_n hx hb dX1_earlier_17 rfl (lv_at hl 0 rfl) ?_
          refine gm_get_li C hw dX1_earlier_18 ?_
          refine lv_iload_n hx hb dX1_earlier_21 rfl (lv_at hl 1 rfl) ?_
          refine lv_iconst (v := 3) hx hb dX1_earlier_22 (by decide) ?_
          refine lv_imul hx hb dX1_earlier_23 ?_
          refine lv_iload_n hx hb dX1_earlier_24 rfl (lv_at hl 3 rfl) ?_
          refine lv_iadd hx hb dX1_earlier_25 ?_
          have b13 := h.1
          have h := h.2
          refine gm_ald_li C hw b13 dX1_earlier_26 ?_
          refine lv_goto (tgt := 32) hx hb dX1_earlier_27 (by decide) ?_
          refine lv_istore (lv' := [(4, .int (li ((z1 * 3) + x3_1).toNatClampNeg)), (0, .ref (a 0)), (1, .int z1), (2, .int z2), (3, .int x3_1)]) hx hb dX1_earlier_32 hl (by decide) rfl (fun ls hl => ?_)
          exact join_3 _ _ _ _ h hw (lv_sub hl [1, 2, 3, 4, 0] rfl)
  exact loop_1 _ _ _ _ _ (Nat.lt_succ_self _) h0_1 hw (lv_sub hl [1, 2, 3, 0] rfl)
set_option maxHeartbeats 4000000 in
set_option maxRecDepth 100000 in
theorem c_X1_query (l : Launch) (D : va_G) (a : Nat → Nat) (d : ClassId) (li : Nat → Int32) (le : Nat → Int32) (vs : Nat → Int32) (nd : Int32) (po : Nat → Int32) (dp : Int32) {K : Int32 → Prop} (h : X1_query_w li le vs nd po dp K) : CTi l yX1_query cX1_query 3 (some .int)  (gRm 1 25) D d [.ref (a 0)] (gM a d li le vs nd po dp) (S := Unit) (fun (r : Int32) (u : Unit) => K r) (fun u => gM a d li le vs nd po dp) := by
  refine gEnter_i (by decide) (Nat.le_of_ble_eq_true rfl) ?_
  intro p e s m args below meth c A Q ls C ret hl hw
  have C : gCx RX1 cX1_query 3 (some .int) D d A p s m args meth c := C
  have hx := C.1.1
  have hb := C.1.2.1
  have hown := C.1.2.2.2.1
  have hts := C.1.2.2.2.2
  have hl : lv_has ls 3 [(0, .ref (a 0))] := hl
  unfold X1_query_w at h
  refine lv_iconst (v := (-1)) hx hb dX1_query_0 (by decide) ?_
  refine lv_istore_n (lv' := [(1, .int (-1)), (0, .ref (a 0))]) hx hb dX1_query_1 rfl hl (by decide) rfl (fun ls hl => ?_)
  refine lv_iconst (v := 0) hx hb dX1_query_2 (by decide) ?_
  refine lv_istore_n (lv' := [(2, .int 0), (1, .int (-1)), (0, .ref (a 0))]) hx hb dX1_query_3 rfl hl (by decide) rfl (fun ls hl => ?_)
  obtain ⟨I1, μ1, h0_1, hI_1⟩ := h
  have loop_1 : ∀ (k : Nat) (x1_1 : Int32) (x2_1 : Int32) (H : Heap) (locs : List Loc) (ls : Array Slot), μ1 x1_1 x2_1 < k → I1 x1_1 x2_1 → gSt D A s (gM a d li le vs nd po dp) H locs → lv_has ls 3 [(0, .ref (a 0)), (1, .int x1_1), (2, .int x2_1)] → W p l e (gRm 1 25) s m args below meth c H locs 0 0 Q (F0 m 4 ls []) := by
    intro k
    induction k with
    | zero => intro x1_1 x2_1 H locs ls hk; exact absurd hk (Nat.not_lt_zero _)
    | succ k ih_1 =>
      intro x1_1 x2_1 H locs ls hk_1 hi hw hl
      have h := hI_1 x1_1 x2_1 hi
      refine lv_iload_n hx hb dX1_query_4 rfl (lv_at hl 2 rfl) ?_
      refine lv_aload_n hx hb dX1_query_5 rfl (lv_at hl 0 rfl) ?_
      refine gm_get_nd C hw dX1_query_6 ?_
      refine lv_icmp_ge (tgt := 41) hx hb dX1_query_9 (by decide) (fun c2 => ?_) (fun c2 => ?_)
      · have h := h.1 c2
        refine lv_iload_n hx hb dX1_query_41 rfl (lv_at hl 1 rfl) ?_
        refine lv_if_ge (tgt := 49) hx hb dX1_query_42 (by decide) (fun c3 => ?_) (fun c3 => ?_)
        · have h := h.1 c3
          refine lv_aload_n hx hb dX1_query_49 rfl (lv_at hl 0 rfl) ?_
          refine gm_get_vs C hw dX1_query_50 ?_
          refine lv_iload_n hx hb dX1_query_53 rfl (lv_at hl 1 rfl) ?_
          have b4 := h.1
          have h := h.2
          refine gm_ald_vs C hw b4 dX1_query_54 ?_
          exact ret (vs x1_1.toNatClampNeg) () _ _ _ _ h rfl hw dX1_query_55
        · have h := h.2 c3
          refine lv_iconst (v := 0) hx hb dX1_query_45 (by decide) ?_
          refine lv_goto (tgt := 55) hx hb dX1_query_46 (by decide) ?_
          exact ret 0 () _ _ _ _ h rfl hw dX1_query_55
      · have h := h.2 c2
        refine lv_aload_n hx hb dX1_query_12 rfl (lv_at hl 0 rfl) ?_
        refine lv_iload_n hx hb dX1_query_13 rfl (lv_at hl 2 rfl) ?_
        refine g_callVi (rest := []) C (c_X1_order l D a d _ _ _ _ _ _ x2_1 h) 59 RX1 (lw_V q303 q305 qs20 q24 q306) (na := 1) (by decide +kernel) rfl (by decide) 1 rfl rfl rfl hw hl.1 rfl (Nat.le_of_ble_eq_true rfl) ⟨Nat.le_refl _, Nat.le_refl _⟩ dX1_query_14 (fun r_5 u_5 H locs h hw => ?_)
        refine lv_if_le (tgt := 35) hx hb dX1_query_17 (by decide) (fun c6 => ?_) (fun c6 => ?_)
        · have h := h.1 c6
          refine lv_iinc (v := (x2_1 + 1)) (lv' := [(2, .int (x2_1 + 1)), (0, .ref (a 0)), (1, .int x1_1)]) hx hb dX1_query_35 hl (k := 2) rfl rfl (by decide) rfl (fun ls hl => ?_)
          refine lv_goto (tgt := 4) hx hb dX1_query_38 (by decide) ?_
          exact ih_1 _ _ _ _ _ (Nat.lt_of_lt_of_le h.2 (Nat.le_of_lt_succ hk_1)) h.1 hw (lv_sub hl [1, 2, 0] rfl)
        · have h := h.2 c6
          refine lv_iload_n hx hb dX1_query_20 rfl (lv_at hl 1 rfl) ?_
          refine lv_if_lt (tgt := 33) hx hb dX1_query_21 (by decide) (fun c7 => ?_) (fun c7 => ?_)
          · have h := h.1 c7
            refine lv_iload_n hx hb dX1_query_33 rfl (lv_at hl 2 rfl) ?_
            refine lv_istore_n (lv' := [(1, .int x2_1), (0, .ref (a 0)), (2, .int x2_1)]) hx hb dX1_query_34 rfl hl (by decide) rfl (fun ls hl => ?_)
            refine lv_iinc (v := (x2_1 + 1)) (lv' := [(2, .int (x2_1 + 1)), (1, .int x2_1), (0, .ref (a 0))]) hx hb dX1_query_35 hl (k := 2) rfl rfl (by decide) rfl (fun ls hl => ?_)
            refine lv_goto (tgt := 4) hx hb dX1_query_38 (by decide) ?_
            exact ih_1 _ _ _ _ _ (Nat.lt_of_lt_of_le h.2 (Nat.le_of_lt_succ hk_1)) h.1 hw (lv_sub hl [2, 1, 0] rfl)
          · have h := h.2 c7
            refine lv_aload_n hx hb dX1_query_24 rfl (lv_at hl 0 rfl) ?_
            refine lv_iload_n hx hb dX1_query_25 rfl (lv_at hl 2 rfl) ?_
            refine lv_iload_n hx hb dX1_query_26 rfl (lv_at hl 1 rfl) ?_
            refine g_callVi (rest := []) C (c_X1_earlier l D a d _ _ _ _ _ _ x2_1 x1_1 h) 62 RX1 (lw_V q307 q309 qs21 q24 q310) (na := 2) (by decide +kernel) rfl (by decide) 1 rfl rfl rfl hw hl.1 rfl (Nat.le_of_ble_eq_true rfl) ⟨Nat.le_refl _, Nat.le_refl _⟩ dX1_query_27 (fun r_8 u_8 H locs h hw => ?_)
            refine lv_if_eq (tgt := 35) hx hb dX1_query_30 (by decide) (fun c9 => ?_) (fun c9 => ?_)
            · have h := h.1 c9
              refine lv_iinc (v := (x2_1 + 1)) (lv' := [(2, .int (x2_1 + 1)), (0, .ref (a 0)), (1, .int x1_1)]) hx hb dX1_query_35 hl (k := 2) rfl rfl (by decide) rfl (fun ls hl => ?_)
              refine lv_goto (tgt := 4) hx hb dX1_query_38 (by decide) ?_
              exact ih_1 _ _ _ _ _ (Nat.lt_of_lt_of_le h.2 (Nat.le_of_lt_succ hk_1)) h.1 hw (lv_sub hl [1, 2, 0] rfl)
            · have h := h.2 c9
              refine lv_iload_n hx hb dX1_query_33 rfl (lv_at hl 2 rfl) ?_
              refine lv_istore_n (lv' := [(1, .int x2_1), (0, .ref (a 0)), (2, .int x2_1)]) hx hb dX1_query_34 rfl hl (by decide) rfl (fun ls hl => ?_)
              refine lv_iinc (v := (x2_1 + 1)) (lv' := [(2, .int (x2_1 + 1)), (1, .int x2_1), (0, .ref (a 0))]) hx hb dX1_query_35 hl (k := 2) rfl rfl (by decide) rfl (fun ls hl => ?_)
              refine lv_goto (tgt := 4) hx hb dX1_query_38 (by decide) ?_
              exact ih_1 _ _ _ _ _ (Nat.lt_of_lt_of_le h.2 (Nat.le_of_lt_succ hk_1)) h.1 hw (lv_sub hl [2, 1, 0] rfl)
  exact loop_1 _ _ _ _ _ _ (Nat.lt_succ_self _) h0_1 hw (lv_sub hl [2, 1, 0] rfl)
set_option maxHeartbeats 4000000 in
set_option maxRecDepth 100000 in
theorem c_X1_before (l : Launch) (D : va_G) (a : Nat → Nat) (d : ClassId) (li : Nat → Int32) (le : Nat → Int32) (vs : Nat → Int32) (nd : Int32) (po : Nat → Int32) (dp : Int32) {K : Int32 → Prop} (h : X1_before_w li le nd po dp K) : CTi l yX1_before cX1_before 3 (some .int)  (gRm 1 24) D d [.ref (a 0)] (gM a d li le vs nd po dp) (S := Unit) (fun (r : Int32) (u : Unit) => K r) (fun u => gM a d li le vs nd po dp) := by
  refine gEnter_i (by decide) (Nat.le_of_ble_eq_true rfl) ?_
  intro p e s m args below meth c A Q ls C ret hl hw
  have C : gCx RX1 cX1_before 3 (some .int) D d A p s m args meth c := C
  have hx := C.1.1
  have hb := C.1.2.1
  have hown := C.1.2.2.2.1
  have hts := C.1.2.2.2.2
  have hl : lv_has ls 3 [(0, .ref (a 0))] := hl
  unfold X1_before_w at h
  refine lv_iconst (v := 0) hx hb dX1_before_0 (by decide) ?_
  refine lv_istore_n (lv' := [(1, .int 0), (0, .ref (a 0))]) hx hb dX1_before_1 rfl hl (by decide) rfl (fun ls hl => ?_)
  refine lv_iconst (v := 0) hx hb dX1_before_2 (by decide) ?_
  refine lv_istore_n (lv' := [(2, .int 0), (1, .int 0), (0, .ref (a 0))]) hx hb dX1_before_3 rfl hl (by decide) rfl (fun ls hl => ?_)
  obtain ⟨I1, μ1, h0_1, hI_1⟩ := h
  have loop_1 : ∀ (k : Nat) (x1_1 : Int32) (x2_1 : Int32) (H : Heap) (locs : List Loc) (ls : Array Slot), μ1 x1_1 x2_1 < k → I1 x1_1 x2_1 → gSt D A s (gM a d li le vs nd po dp) H locs → lv_has ls 3 [(0, .ref (a 0)), (1, .int x1_1), (2, .int x2_1)] → W p l e (gRm 1 24) s m args below meth c H locs 0 0 Q (F0 m 4 ls []) := by
    intro k
    induction k with
    | zero => intro x1_1 x2_1 H locs ls hk; exact absurd hk (Nat.not_lt_zero _)
    | succ k ih_1 =>
      intro x1_1 x2_1 H locs ls hk_1 hi hw hl
      have h := hI_1 x1_1 x2_1 hi
      refine lv_iload_n hx hb dX1_before_4 rfl (lv_at hl 2 rfl) ?_
      refine lv_aload_n hx hb dX1_before_5 rfl (lv_at hl 0 rfl) ?_
      refine gm_get_nd C hw dX1_before_6 ?_
      refine lv_icmp_ge (tgt := 29) hx hb dX1_before_9 (by decide) (fun c2 => ?_) (fun c2 => ?_)
      · have h := h.1 c2
        refine lv_iload_n hx hb dX1_before_29 rfl (lv_at hl 1 rfl) ?_
        exact ret x1_1 () _ _ _ _ h rfl hw dX1_before_30
      · have h := h.2 c2
        refine lv_aload_n hx hb dX1_before_12 rfl (lv_at hl 0 rfl) ?_
        refine lv_iload_n hx hb dX1_before_13 rfl (lv_at hl 2 rfl) ?_
        refine g_callVi (rest := []) C (c_X1_order l D a d _ _ _ _ _ _ x2_1 h) 59 RX1 (lw_V q303 q305 qs20 q24 q306) (na := 1) (by decide +kernel) rfl (by decide) 1 rfl rfl rfl hw hl.1 rfl (Nat.le_of_ble_eq_true rfl) ⟨Nat.le_refl _, Nat.le_refl _⟩ dX1_before_14 (fun r_3 u_3 H locs h hw => ?_)
        refine lv_if_ge (tgt := 23) hx hb dX1_before_17 (by decide) (fun c4 => ?_) (fun c4 => ?_)
        · have h := h.1 c4
          refine lv_iinc (v := (x2_1 + 1)) (lv' := [(2, .int (x2_1 + 1)), (0, .ref (a 0)), (1, .int x1_1)]) hx hb dX1_before_23 hl (k := 2) rfl rfl (by decide) rfl (fun ls hl => ?_)
          refine lv_goto (tgt := 4) hx hb dX1_before_26 (by decide) ?_
          exact ih_1 _ _ _ _ _ (Nat.lt_of_lt_of_le h.2 (Nat.le_of_lt_succ hk_1)) h.1 hw (lv_sub hl [1, 2, 0] rfl)
        · have h := h.2 c4
          refine lv_iinc (v := (x1_1 + 1)) (lv' := [(1, .int (x1_1 + 1)), (0, .ref (a 0)), (2, .int x2_1)]) hx hb dX1_before_20 hl (k := 1) rfl rfl (by decide) rfl (fun ls hl => ?_)
          refine lv_iinc (v := (x2_1 + 1)) (lv' := [(2, .int (x2_1 + 1)), (1, .int (x1_1 + 1)), (0, .ref (a 0))]) hx hb dX1_before_23 hl (k := 2) rfl rfl (by decide) rfl (fun ls hl => ?_)
          refine lv_goto (tgt := 4) hx hb dX1_before_26 (by decide) ?_
          exact ih_1 _ _ _ _ _ (Nat.lt_of_lt_of_le h.2 (Nat.le_of_lt_succ hk_1)) h.1 hw (lv_sub hl [2, 1, 0] rfl)
  exact loop_1 _ _ _ _ _ _ (Nat.lt_succ_self _) h0_1 hw (lv_sub hl [2, 1, 0] rfl)
set_option maxHeartbeats 4000000 in
set_option maxRecDepth 100000 in
theorem c_X1_count (l : Launch) (D : va_G) (a : Nat → Nat) (d : ClassId) (li : Nat → Int32) (le : Nat → Int32) (vs : Nat → Int32) (nd : Int32) (po : Nat → Int32) (dp : Int32) {K : Int32 → Prop} (h : X1_count_w nd K) : CTi l yX1_count cX1_count 1 (some .int)  (gRm 0 0) D d [.ref (a 0)] (gM a d li le vs nd po dp) (S := Unit) (fun (r : Int32) (u : Unit) => K r) (fun u => gM a d li le vs nd po dp) := by
  refine gEnter_i (by decide) (Nat.le_of_ble_eq_true rfl) ?_
  intro p e s m args below meth c A Q ls C ret hl hw
  have C : gCx RX1 cX1_count 1 (some .int) D d A p s m args meth c := C
  have hx := C.1.1
  have hb := C.1.2.1
  have hown := C.1.2.2.2.1
  have hts := C.1.2.2.2.2
  have hl : lv_has ls 1 [(0, .ref (a 0))] := hl
  unfold X1_count_w at h
  refine lv_aload_n hx hb dX1_count_0 rfl (lv_at hl 0 rfl) ?_
  refine gm_get_nd C hw dX1_count_1 ?_
  exact ret nd () _ _ _ _ h rfl hw dX1_count_4
end
section
section NA
variable {p : Program} {l : Launch} {e : Env} {R : Room} {s : State} {m : MethodId} {args : Array Value} {below : List Frame} {meth : Method} {c : Code} {H : Heap} {locs : List Loc} {cells slots : Nat} {Q : State → Prop} {cc : ByteArray} {pc : Nat} {ls : Array Slot} {rest : List Value} {D : va_G} {A : Nat → Prop} {d : ClassId}
theorem g_newa {ws : va_W} (hx : p.tables.exec = Jvm.exec) (hb : c.code = cc) (hts : ∀ w ∈ lw_all, w.before args s = true) (hK : va_K D vwCl [(d, .int)] s) (hA : ∀ q, s.heap.size ≤ q → A q) (hw : gSt D A s ws H locs) {n : Int32} (N : Nat) (hn : ¬ n < 0) (hN : n.toNatClampNeg = N) (hbytes : N * componentBytes .int ≤ 536870912) (hcells : cells + 1 ≤ R.cells) (hslots : slots + N ≤ R.slots) (hdg : decode cc pc = .ok (.newarray .int, 2))
    (kk : ∀ (q : Nat) (H1 : Heap), gSt D A s (ws ++ [(q, .inl (d, N, .inl (fun _ => 0)))]) H1 locs → W p l e R s m args below meth c H1 locs (cells + 1) (slots + N) Q (F0 m (pc + 2) ls (.ref q :: rest))) : W p l e R s m args below meth c H locs cells slots Q (F0 m pc ls (.int n :: rest)) := by
  refine va_newa (atype := .int) (ty := .int) (a0 := (N, .inl (fun _ => 0))) hx hb (hts _ q73) rfl hK hw.1 hw.2.1 hw.2.2 hA (fun cA => rfl) hn hN hbytes hcells hslots hdg (fun q cA H1 hK1 hP hD hS => ?_)
  have e1 : s.vm.findClass ("[" ++ FieldType.int.toString) = some d := (hK1.2 0 (d, .int) rfl).2
  have e2 : s.vm.findClass ("[" ++ FieldType.int.toString) = some cA := (hK1.2 1 (cA, .int) rfl).2
  have e3 : cA = d := Option.some.inj (e2.symm.trans e1)
  subst e3
  exact kk q H1 ⟨hP, hD, hS⟩
end NA
set_option maxHeartbeats 4000000 in
set_option maxRecDepth 100000 in
theorem c_X0_init (l : Launch) (D : va_G) (d : ClassId) (q0 sz : Nat) : Met l yX0_init (ws_ yX0_init cX0_init 1 none) { frames := 1, cells := 8, slots := 787, locals := 12 } (va_Pc [.ref q0] (gPre D d [(q0, .inr (0, [.int 0, .null, .int 0, .null, .null, .null, .int 0, .int 0, .int 0, .null, .null, .null, .null]))] sz)) (va_Qv (fun (a : Nat → Nat) => a 0 = q0) (fun a t => gPost D d [(q0, .inr (0, [.int 0, .null, .int 0, .null, .null, .null, .int 0, .int 0, .int 0, .null, .null, .null, .null]))] sz (gT a d 0 (fun _ => 0) 1 (fun _ => 0) (fun _ => 0) (fun _ => 0) 0 0 0 (fun _ => 0) (fun _ => 0) (fun _ => 0) (fun _ => 0)) t) (va_A [(q0, .inr (0, [.int 0, .null, .int 0, .null, .null, .null, .int 0, .int 0, .int 0, .null, .null, .null, .null]))] sz)) 8 787 (va_A [(q0, .inr (0, [.int 0, .null, .int 0, .null, .null, .null, .int 0, .int 0, .int 0, .null, .null, .null, .null]))] sz) := by
  refine Met.ofW (cc := cX0_init) (maxL := 1) (ret := none) (by decide) rfl ?_
  intro p e s m args below meth c s₁ B hml hv
  obtain ⟨rfl, hsz, hP, hK, hD0⟩ := hv
  have hx := B.exec
  have hb := B.bytes
  have hr := B.returns
  have hts := atoms_spec (ws := ws_ yX0_init cX0_init 1 none) B.pre
  have hts : ∀ w ∈ lw_all, w.before _ s = true := fun w h => hts w (List.mem_cons_of_mem _ h)
  have hown : s.vm.findClass RX0 = some m.cls := findClass_of_methodNamed B.named
  have hlocks := B.notSynchronized
  have hin : meth.name = "<init>" := (name_of_methodNamed B.named B.method).1
  subst hsz
  have hD := hD0.self (sz := s.heap.size)
  generalize hAe : va_A [(q0, .inr (0, [.int 0, .null, .int 0, .null, .null, .null, .int 0, .int 0, .int 0, .null, .null, .null, .null]))] s.heap.size = A at hD ⊢
  have hA : ∀ q : Nat, s.heap.size ≤ q → A q := fun q h => by rw [← hAe]; exact Or.inr h
  have hw : gSt D A s [(q0, .inr (0, [.int 0, .null, .int 0, .null, .null, .null, .int 0, .int 0, .int 0, .null, .null, .null, .null]))] s.heap [] := ⟨hP, hD, va_S.rf⟩
  have hl := lv_entry ([.ref q0]) (n := 1) (Nat.le_of_ble_eq_true rfl)
  rw [lg_entry_eq]
  generalize (lg_sl ([.ref q0]) ++ List.replicate (1 - (lg_sl ([.ref q0])).length) Slot.unset).toArray = ls at hl ⊢
  have hl : lv_has ls 1 [(0, .ref q0)] := hl
  refine lv_aload_n hx hb dX0_init_0 rfl (lv_at hl 0 rfl) ?_
  refine W.objInit hx hb hown (hts _ q30) (hts _ q31) (hts _ q32) rfl (by rw [hml]; exact hl.1) rfl dX0_init_1 (Nat.le_of_ble_eq_true rfl) (Nat.le_of_ble_eq_true rfl) ?_
  refine W.eq (g2 := F0 m 4 ls []) rfl ?_
  refine lv_aload_n hx hb dX0_init_4 rfl (lv_at hl 0 rfl) ?_
  refine lv_iconst (v := 3) hx hb dX0_init_5 (by decide) ?_
  refine g_newa hx hb hts hK hA hw 3 (by decide) (by decide) (by decide) (Nat.le_of_ble_eq_true rfl) (Nat.le_of_ble_eq_true rfl) dX0_init_6 (fun q1 H hw => ?_)
  refine W.widen (k := 1) (n := 3) (Nat.le_refl _) (Nat.le_refl _) ?_
  have hw : gSt D A s [(q0, .inr (0, [.int 0, .null, .int 0, .null, .null, .null, .int 0, .int 0, .int 0, .null, .null, .null, .null])), (q1, .inl (d, 3, .inl (fun _ => 0)))] H _ := hw
  refine va_putF (D := D) (ci := 0) (v := .ref q1) (ty := .array .int) (C := RX0) (T := TX0) (N := 13) hx hb hts in_X0 tyX0 tyX0_ok nmX0 hown hK hw.1 hw.2.1 hw.2.2 0 rfl rfl 1 (by decide) (hts _ q34) (fun _ h9 => h9) rfl hin rfl (by decide +kernel) rfl rfl (Nat.le_of_ble_eq_true rfl) dX0_init_8 (fun H locs hP hD hS => ?_)
  have hw : gSt D A s [(q0, .inr (0, [.int 0, .ref q1, .int 0, .null, .null, .null, .int 0, .int 0, .int 0, .null, .null, .null, .null])), (q1, .inl (d, 3, .inl (fun _ => 0)))] H locs := ⟨hP, hD, hS⟩
  refine lv_aload_n hx hb dX0_init_11 rfl (lv_at hl 0 rfl) ?_
  refine lv_bipush (v := 32) hx hb dX0_init_12 (by decide) ?_
  refine g_newa hx hb hts hK hA hw 32 (by decide) (by decide) (by decide) (Nat.le_of_ble_eq_true rfl) (Nat.le_of_ble_eq_true rfl) dX0_init_14 (fun q2 H hw => ?_)
  refine W.widen (k := 2) (n := 35) (Nat.le_refl _) (Nat.le_refl _) ?_
  have hw : gSt D A s [(q0, .inr (0, [.int 0, .ref q1, .int 0, .null, .null, .null, .int 0, .int 0, .int 0, .null, .null, .null, .null])), (q1, .inl (d, 3, .inl (fun _ => 0))), (q2, .inl (d, 32, .inl (fun _ => 0)))] H _ := hw
  refine va_putF (D := D) (ci := 0) (v := .ref q2) (ty := .array .int) (C := RX0) (T := TX0) (N := 13) hx hb hts in_X0 tyX0 tyX0_ok nmX0 hown hK hw.1 hw.2.1 hw.2.2 0 rfl rfl 3 (by decide) (hts _ q36) (fun _ h9 => h9) rfl hin rfl (by decide +kernel) rfl rfl (Nat.le_of_ble_eq_true rfl) dX0_init_16 (fun H locs hP hD hS => ?_)
  have hw : gSt D A s [(q0, .inr (0, [.int 0, .ref q1, .int 0, .ref q2, .null, .null, .int 0, .int 0, .int 0, .null, .null, .null, .null])), (q1, .inl (d, 3, .inl (fun _ => 0))), (q2, .inl (d, 32, .inl (fun _ => 0)))] H locs := ⟨hP, hD, hS⟩
  refine lv_aload_n hx hb dX0_init_19 rfl (lv_at hl 0 rfl) ?_
  refine lv_sipush (v := 256) hx hb dX0_init_20 (by decide) ?_
  refine g_newa hx hb hts hK hA hw 256 (by decide) (by decide) (by decide) (Nat.le_of_ble_eq_true rfl) (Nat.le_of_ble_eq_true rfl) dX0_init_23 (fun q3 H hw => ?_)
  refine W.widen (k := 3) (n := 291) (Nat.le_refl _) (Nat.le_refl _) ?_
  have hw : gSt D A s [(q0, .inr (0, [.int 0, .ref q1, .int 0, .ref q2, .null, .null, .int 0, .int 0, .int 0, .null, .null, .null, .null])), (q1, .inl (d, 3, .inl (fun _ => 0))), (q2, .inl (d, 32, .inl (fun _ => 0))), (q3, .inl (d, 256, .inl (fun _ => 0)))] H _ := hw
  refine va_putF (D := D) (ci := 0) (v := .ref q3) (ty := .array .int) (C := RX0) (T := TX0) (N := 13) hx hb hts in_X0 tyX0 tyX0_ok nmX0 hown hK hw.1 hw.2.1 hw.2.2 0 rfl rfl 4 (by decide) (hts _ q37) (fun _ h9 => h9) rfl hin rfl (by decide +kernel) rfl rfl (Nat.le_of_ble_eq_true rfl) dX0_init_25 (fun H locs hP hD hS => ?_)
  have hw : gSt D A s [(q0, .inr (0, [.int 0, .ref q1, .int 0, .ref q2, .ref q3, .null, .int 0, .int 0, .int 0, .null, .null, .null, .null])), (q1, .inl (d, 3, .inl (fun _ => 0))), (q2, .inl (d, 32, .inl (fun _ => 0))), (q3, .inl (d, 256, .inl (fun _ => 0)))] H locs := ⟨hP, hD, hS⟩
  refine lv_aload_n hx hb dX0_init_28 rfl (lv_at hl 0 rfl) ?_
  refine lv_sipush (v := 256) hx hb dX0_init_29 (by decide) ?_
  refine g_newa hx hb hts hK hA hw 256 (by decide) (by decide) (by decide) (Nat.le_of_ble_eq_true rfl) (Nat.le_of_ble_eq_true rfl) dX0_init_32 (fun q4 H hw => ?_)
  refine W.widen (k := 4) (n := 547) (Nat.le_refl _) (Nat.le_refl _) ?_
  have hw : gSt D A s [(q0, .inr (0, [.int 0, .ref q1, .int 0, .ref q2, .ref q3, .null, .int 0, .int 0, .int 0, .null, .null, .null, .null])), (q1, .inl (d, 3, .inl (fun _ => 0))), (q2, .inl (d, 32, .inl (fun _ => 0))), (q3, .inl (d, 256, .inl (fun _ => 0))), (q4, .inl (d, 256, .inl (fun _ => 0)))] H _ := hw
  refine va_putF (D := D) (ci := 0) (v := .ref q4) (ty := .array .int) (C := RX0) (T := TX0) (N := 13) hx hb hts in_X0 tyX0 tyX0_ok nmX0 hown hK hw.1 hw.2.1 hw.2.2 0 rfl rfl 5 (by decide) (hts _ q38) (fun _ h9 => h9) rfl hin rfl (by decide +kernel) rfl rfl (Nat.le_of_ble_eq_true rfl) dX0_init_34 (fun H locs hP hD hS => ?_)
  have hw : gSt D A s [(q0, .inr (0, [.int 0, .ref q1, .int 0, .ref q2, .ref q3, .ref q4, .int 0, .int 0, .int 0, .null, .null, .null, .null])), (q1, .inl (d, 3, .inl (fun _ => 0))), (q2, .inl (d, 32, .inl (fun _ => 0))), (q3, .inl (d, 256, .inl (fun _ => 0))), (q4, .inl (d, 256, .inl (fun _ => 0)))] H locs := ⟨hP, hD, hS⟩
  refine lv_aload_n hx hb dX0_init_37 rfl (lv_at hl 0 rfl) ?_
  refine lv_bipush (v := 60) hx hb dX0_init_38 (by decide) ?_
  refine g_newa hx hb hts hK hA hw 60 (by decide) (by decide) (by decide) (Nat.le_of_ble_eq_true rfl) (Nat.le_of_ble_eq_true rfl) dX0_init_40 (fun q5 H hw => ?_)
  refine W.widen (k := 5) (n := 607) (Nat.le_refl _) (Nat.le_refl _) ?_
  have hw : gSt D A s [(q0, .inr (0, [.int 0, .ref q1, .int 0, .ref q2, .ref q3, .ref q4, .int 0, .int 0, .int 0, .null, .null, .null, .null])), (q1, .inl (d, 3, .inl (fun _ => 0))), (q2, .inl (d, 32, .inl (fun _ => 0))), (q3, .inl (d, 256, .inl (fun _ => 0))), (q4, .inl (d, 256, .inl (fun _ => 0))), (q5, .inl (d, 60, .inl (fun _ => 0)))] H _ := hw
  refine va_putF (D := D) (ci := 0) (v := .ref q5) (ty := .array .int) (C := RX0) (T := TX0) (N := 13) hx hb hts in_X0 tyX0 tyX0_ok nmX0 hown hK hw.1 hw.2.1 hw.2.2 0 rfl rfl 9 (by decide) (hts _ q42) (fun _ h9 => h9) rfl hin rfl (by decide +kernel) rfl rfl (Nat.le_of_ble_eq_true rfl) dX0_init_42 (fun H locs hP hD hS => ?_)
  have hw : gSt D A s [(q0, .inr (0, [.int 0, .ref q1, .int 0, .ref q2, .ref q3, .ref q4, .int 0, .int 0, .int 0, .ref q5, .null, .null, .null])), (q1, .inl (d, 3, .inl (fun _ => 0))), (q2, .inl (d, 32, .inl (fun _ => 0))), (q3, .inl (d, 256, .inl (fun _ => 0))), (q4, .inl (d, 256, .inl (fun _ => 0))), (q5, .inl (d, 60, .inl (fun _ => 0)))] H locs := ⟨hP, hD, hS⟩
  refine lv_aload_n hx hb dX0_init_45 rfl (lv_at hl 0 rfl) ?_
  refine lv_bipush (v := 60) hx hb dX0_init_46 (by decide) ?_
  refine g_newa hx hb hts hK hA hw 60 (by decide) (by decide) (by decide) (Nat.le_of_ble_eq_true rfl) (Nat.le_of_ble_eq_true rfl) dX0_init_48 (fun q6 H hw => ?_)
  refine W.widen (k := 6) (n := 667) (Nat.le_refl _) (Nat.le_refl _) ?_
  have hw : gSt D A s [(q0, .inr (0, [.int 0, .ref q1, .int 0, .ref q2, .ref q3, .ref q4, .int 0, .int 0, .int 0, .ref q5, .null, .null, .null])), (q1, .inl (d, 3, .inl (fun _ => 0))), (q2, .inl (d, 32, .inl (fun _ => 0))), (q3, .inl (d, 256, .inl (fun _ => 0))), (q4, .inl (d, 256, .inl (fun _ => 0))), (q5, .inl (d, 60, .inl (fun _ => 0))), (q6, .inl (d, 60, .inl (fun _ => 0)))] H _ := hw
  refine va_putF (D := D) (ci := 0) (v := .ref q6) (ty := .array .int) (C := RX0) (T := TX0) (N := 13) hx hb hts in_X0 tyX0 tyX0_ok nmX0 hown hK hw.1 hw.2.1 hw.2.2 0 rfl rfl 10 (by decide) (hts _ q43) (fun _ h9 => h9) rfl hin rfl (by decide +kernel) rfl rfl (Nat.le_of_ble_eq_true rfl) dX0_init_50 (fun H locs hP hD hS => ?_)
  have hw : gSt D A s [(q0, .inr (0, [.int 0, .ref q1, .int 0, .ref q2, .ref q3, .ref q4, .int 0, .int 0, .int 0, .ref q5, .ref q6, .null, .null])), (q1, .inl (d, 3, .inl (fun _ => 0))), (q2, .inl (d, 32, .inl (fun _ => 0))), (q3, .inl (d, 256, .inl (fun _ => 0))), (q4, .inl (d, 256, .inl (fun _ => 0))), (q5, .inl (d, 60, .inl (fun _ => 0))), (q6, .inl (d, 60, .inl (fun _ => 0)))] H locs := ⟨hP, hD, hS⟩
  refine lv_aload_n hx hb dX0_init_53 rfl (lv_at hl 0 rfl) ?_
  refine lv_bipush (v := 60) hx hb dX0_init_54 (by decide) ?_
  refine g_newa hx hb hts hK hA hw 60 (by decide) (by decide) (by decide) (Nat.le_of_ble_eq_true rfl) (Nat.le_of_ble_eq_true rfl) dX0_init_56 (fun q7 H hw => ?_)
  refine W.widen (k := 7) (n := 727) (Nat.le_refl _) (Nat.le_refl _) ?_
  have hw : gSt D A s [(q0, .inr (0, [.int 0, .ref q1, .int 0, .ref q2, .ref q3, .ref q4, .int 0, .int 0, .int 0, .ref q5, .ref q6, .null, .null])), (q1, .inl (d, 3, .inl (fun _ => 0))), (q2, .inl (d, 32, .inl (fun _ => 0))), (q3, .inl (d, 256, .inl (fun _ => 0))), (q4, .inl (d, 256, .inl (fun _ => 0))), (q5, .inl (d, 60, .inl (fun _ => 0))), (q6, .inl (d, 60, .inl (fun _ => 0))), (q7, .inl (d, 60, .inl (fun _ => 0)))] H _ := hw
  refine va_putF (D := D) (ci := 0) (v := .ref q7) (ty := .array .int) (C := RX0) (T := TX0) (N := 13) hx hb hts in_X0 tyX0 tyX0_ok nmX0 hown hK hw.1 hw.2.1 hw.2.2 0 rfl rfl 11 (by decide) (hts _ q44) (fun _ h9 => h9) rfl hin rfl (by decide +kernel) rfl rfl (Nat.le_of_ble_eq_true rfl) dX0_init_58 (fun H locs hP hD hS => ?_)
  have hw : gSt D A s [(q0, .inr (0, [.int 0, .ref q1, .int 0, .ref q2, .ref q3, .ref q4, .int 0, .int 0, .int 0, .ref q5, .ref q6, .ref q7, .null])), (q1, .inl (d, 3, .inl (fun _ => 0))), (q2, .inl (d, 32, .inl (fun _ => 0))), (q3, .inl (d, 256, .inl (fun _ => 0))), (q4, .inl (d, 256, .inl (fun _ => 0))), (q5, .inl (d, 60, .inl (fun _ => 0))), (q6, .inl (d, 60, .inl (fun _ => 0))), (q7, .inl (d, 60, .inl (fun _ => 0)))] H locs := ⟨hP, hD, hS⟩
  refine lv_aload_n hx hb dX0_init_61 rfl (lv_at hl 0 rfl) ?_
  refine lv_bipush (v := 60) hx hb dX0_init_62 (by decide) ?_
  refine g_newa hx hb hts hK hA hw 60 (by decide) (by decide) (by decide) (Nat.le_of_ble_eq_true rfl) (Nat.le_of_ble_eq_true rfl) dX0_init_64 (fun q8 H hw => ?_)
  refine W.widen (k := 8) (n := 787) (Nat.le_refl _) (Nat.le_refl _) ?_
  have hw : gSt D A s [(q0, .inr (0, [.int 0, .ref q1, .int 0, .ref q2, .ref q3, .ref q4, .int 0, .int 0, .int 0, .ref q5, .ref q6, .ref q7, .null])), (q1, .inl (d, 3, .inl (fun _ => 0))), (q2, .inl (d, 32, .inl (fun _ => 0))), (q3, .inl (d, 256, .inl (fun _ => 0))), (q4, .inl (d, 256, .inl (fun _ => 0))), (q5, .inl (d, 60, .inl (fun _ => 0))), (q6, .inl (d, 60, .inl (fun _ => 0))), (q7, .inl (d, 60, .inl (fun _ => 0))), (q8, .inl (d, 60, .inl (fun _ => 0)))] H _ := hw
  refine va_putF (D := D) (ci := 0) (v := .ref q8) (ty := .array .int) (C := RX0) (T := TX0) (N := 13) hx hb hts in_X0 tyX0 tyX0_ok nmX0 hown hK hw.1 hw.2.1 hw.2.2 0 rfl rfl 12 (by decide) (hts _ q45) (fun _ h9 => h9) rfl hin rfl (by decide +kernel) rfl rfl (Nat.le_of_ble_eq_true rfl) dX0_init_66 (fun H locs hP hD hS => ?_)
  have hw : gSt D A s [(q0, .inr (0, [.int 0, .ref q1, .int 0, .ref q2, .ref q3, .ref q4, .int 0, .int 0, .int 0, .ref q5, .ref q6, .ref q7, .ref q8])), (q1, .inl (d, 3, .inl (fun _ => 0))), (q2, .inl (d, 32, .inl (fun _ => 0))), (q3, .inl (d, 256, .inl (fun _ => 0))), (q4, .inl (d, 256, .inl (fun _ => 0))), (q5, .inl (d, 60, .inl (fun _ => 0))), (q6, .inl (d, 60, .inl (fun _ => 0))), (q7, .inl (d, 60, .inl (fun _ => 0))), (q8, .inl (d, 60, .inl (fun _ => 0)))] H locs := ⟨hP, hD, hS⟩
  refine lv_aload_n hx hb dX0_init_69 rfl (lv_at hl 0 rfl) ?_
  refine lv_iconst (v := 1) hx hb dX0_init_70 (by decide) ?_
  refine va_put (D := D) (ci := 0) (v := .int 1) (ty := .int) (C := RX0) (T := TX0) (N := 13) hx hb hts in_X0 tyX0 tyX0_ok nmX0 hown hK hw.1 hw.2.1 hw.2.2 0 rfl rfl 2 (by decide) (hts _ q35) (fun _ h9 => h9) rfl (by decide +kernel) rfl rfl (Nat.le_of_ble_eq_true rfl) dX0_init_71 (fun H locs hP hD hS => ?_)
  have hw : gSt D A s [(q0, .inr (0, [.int 0, .ref q1, .int 1, .ref q2, .ref q3, .ref q4, .int 0, .int 0, .int 0, .ref q5, .ref q6, .ref q7, .ref q8])), (q1, .inl (d, 3, .inl (fun _ => 0))), (q2, .inl (d, 32, .inl (fun _ => 0))), (q3, .inl (d, 256, .inl (fun _ => 0))), (q4, .inl (d, 256, .inl (fun _ => 0))), (q5, .inl (d, 60, .inl (fun _ => 0))), (q6, .inl (d, 60, .inl (fun _ => 0))), (q7, .inl (d, 60, .inl (fun _ => 0))), (q8, .inl (d, 60, .inl (fun _ => 0)))] H locs := ⟨hP, hD, hS⟩
  have hw : gSt D A s (gT (fun k => ([q0, q1, q2, q3, q4, q5, q6, q7, q8] : List Nat).getD k 0) d 0 (fun _ => 0) 1 (fun _ => 0) (fun _ => 0) (fun _ => 0) 0 0 0 (fun _ => 0) (fun _ => 0) (fun _ => 0) (fun _ => 0)) H locs := hw
  exact W.vret hx hb hr (fun t ht hW => ⟨⟨(fun k => ([q0, q1, q2, q3, q4, q5, q6, q7, q8] : List Nat).getD k 0), rfl, rfl, by rw [ht]; exact hw.1, va_K.moved hW.alike hK, by rw [hAe]; exact hw.2.1⟩, hw.2.2.F ht⟩) hw.2.2.2.2 dX0_init_74
set_option maxHeartbeats 4000000 in
set_option maxRecDepth 100000 in
theorem c_X1_init (l : Launch) (D : va_G) (d : ClassId) (q0 sz : Nat) : Met l yX1_init (ws_ yX1_init cX1_init 1 none) { frames := 1, cells := 4, slots := 303, locals := 12 } (va_Pc [.ref q0] (gPre D d [(q0, .inr (1, [.null, .null, .null, .int 0, .null, .int 0]))] sz)) (va_Qv (fun (a : Nat → Nat) => a 0 = q0) (fun a t => gPost D d [(q0, .inr (1, [.null, .null, .null, .int 0, .null, .int 0]))] sz (gM a d (fun _ => 0) (fun _ => 0) (fun _ => 0) 0 (fun _ => 0) 0) t) (va_A [(q0, .inr (1, [.null, .null, .null, .int 0, .null, .int 0]))] sz)) 4 303 (va_A [(q0, .inr (1, [.null, .null, .null, .int 0, .null, .int 0]))] sz) := by
  refine Met.ofW (cc := cX1_init) (maxL := 1) (ret := none) (by decide) rfl ?_
  intro p e s m args below meth c s₁ B hml hv
  obtain ⟨rfl, hsz, hP, hK, hD0⟩ := hv
  have hx := B.exec
  have hb := B.bytes
  have hr := B.returns
  have hts := atoms_spec (ws := ws_ yX1_init cX1_init 1 none) B.pre
  have hts : ∀ w ∈ lw_all, w.before _ s = true := fun w h => hts w (List.mem_cons_of_mem _ h)
  have hown : s.vm.findClass RX1 = some m.cls := findClass_of_methodNamed B.named
  have hlocks := B.notSynchronized
  have hin : meth.name = "<init>" := (name_of_methodNamed B.named B.method).1
  subst hsz
  have hD := hD0.self (sz := s.heap.size)
  generalize hAe : va_A [(q0, .inr (1, [.null, .null, .null, .int 0, .null, .int 0]))] s.heap.size = A at hD ⊢
  have hA : ∀ q : Nat, s.heap.size ≤ q → A q := fun q h => by rw [← hAe]; exact Or.inr h
  have hw : gSt D A s [(q0, .inr (1, [.null, .null, .null, .int 0, .null, .int 0]))] s.heap [] := ⟨hP, hD, va_S.rf⟩
  have hl := lv_entry ([.ref q0]) (n := 1) (Nat.le_of_ble_eq_true rfl)
  rw [lg_entry_eq]
  generalize (lg_sl ([.ref q0]) ++ List.replicate (1 - (lg_sl ([.ref q0])).length) Slot.unset).toArray = ls at hl ⊢
  have hl : lv_has ls 1 [(0, .ref q0)] := hl
  refine lv_aload_n hx hb dX1_init_0 rfl (lv_at hl 0 rfl) ?_
  refine W.objInit hx hb hown (hts _ q205) (hts _ q31) (hts _ q32) rfl (by rw [hml]; exact hl.1) rfl dX1_init_1 (Nat.le_of_ble_eq_true rfl) (Nat.le_of_ble_eq_true rfl) ?_
  refine W.eq (g2 := F0 m 4 ls []) rfl ?_
  refine lv_aload_n hx hb dX1_init_4 rfl (lv_at hl 0 rfl) ?_
  refine lv_sipush (v := 180) hx hb dX1_init_5 (by decide) ?_
  refine g_newa hx hb hts hK hA hw 180 (by decide) (by decide) (by decide) (Nat.le_of_ble_eq_true rfl) (Nat.le_of_ble_eq_true rfl) dX1_init_8 (fun q1 H hw => ?_)
  refine W.widen (k := 1) (n := 180) (Nat.le_refl _) (Nat.le_refl _) ?_
  have hw : gSt D A s [(q0, .inr (1, [.null, .null, .null, .int 0, .null, .int 0])), (q1, .inl (d, 180, .inl (fun _ => 0)))] H _ := hw
  refine va_putF (D := D) (ci := 1) (v := .ref q1) (ty := .array .int) (C := RX1) (T := TX1) (N := 6) hx hb hts in_X1 tyX1 tyX1_ok nmX1 hown hK hw.1 hw.2.1 hw.2.2 0 rfl rfl 0 (by decide) (hts _ q206) (fun _ h9 => h9) rfl hin rfl (by decide +kernel) rfl rfl (Nat.le_of_ble_eq_true rfl) dX1_init_10 (fun H locs hP hD hS => ?_)
  have hw : gSt D A s [(q0, .inr (1, [.ref q1, .null, .null, .int 0, .null, .int 0])), (q1, .inl (d, 180, .inl (fun _ => 0)))] H locs := ⟨hP, hD, hS⟩
  refine lv_aload_n hx hb dX1_init_13 rfl (lv_at hl 0 rfl) ?_
  refine lv_bipush (v := 60) hx hb dX1_init_14 (by decide) ?_
  refine g_newa hx hb hts hK hA hw 60 (by decide) (by decide) (by decide) (Nat.le_of_ble_eq_true rfl) (Nat.le_of_ble_eq_true rfl) dX1_init_16 (fun q2 H hw => ?_)
  refine W.widen (k := 2) (n := 240) (Nat.le_refl _) (Nat.le_refl _) ?_
  have hw : gSt D A s [(q0, .inr (1, [.ref q1, .null, .null, .int 0, .null, .int 0])), (q1, .inl (d, 180, .inl (fun _ => 0))), (q2, .inl (d, 60, .inl (fun _ => 0)))] H _ := hw
  refine va_putF (D := D) (ci := 1) (v := .ref q2) (ty := .array .int) (C := RX1) (T := TX1) (N := 6) hx hb hts in_X1 tyX1 tyX1_ok nmX1 hown hK hw.1 hw.2.1 hw.2.2 0 rfl rfl 1 (by decide) (hts _ q207) (fun _ h9 => h9) rfl hin rfl (by decide +kernel) rfl rfl (Nat.le_of_ble_eq_true rfl) dX1_init_18 (fun H locs hP hD hS => ?_)
  have hw : gSt D A s [(q0, .inr (1, [.ref q1, .ref q2, .null, .int 0, .null, .int 0])), (q1, .inl (d, 180, .inl (fun _ => 0))), (q2, .inl (d, 60, .inl (fun _ => 0)))] H locs := ⟨hP, hD, hS⟩
  refine lv_aload_n hx hb dX1_init_21 rfl (lv_at hl 0 rfl) ?_
  refine lv_bipush (v := 60) hx hb dX1_init_22 (by decide) ?_
  refine g_newa hx hb hts hK hA hw 60 (by decide) (by decide) (by decide) (Nat.le_of_ble_eq_true rfl) (Nat.le_of_ble_eq_true rfl) dX1_init_24 (fun q3 H hw => ?_)
  refine W.widen (k := 3) (n := 300) (Nat.le_refl _) (Nat.le_refl _) ?_
  have hw : gSt D A s [(q0, .inr (1, [.ref q1, .ref q2, .null, .int 0, .null, .int 0])), (q1, .inl (d, 180, .inl (fun _ => 0))), (q2, .inl (d, 60, .inl (fun _ => 0))), (q3, .inl (d, 60, .inl (fun _ => 0)))] H _ := hw
  refine va_putF (D := D) (ci := 1) (v := .ref q3) (ty := .array .int) (C := RX1) (T := TX1) (N := 6) hx hb hts in_X1 tyX1 tyX1_ok nmX1 hown hK hw.1 hw.2.1 hw.2.2 0 rfl rfl 2 (by decide) (hts _ q208) (fun _ h9 => h9) rfl hin rfl (by decide +kernel) rfl rfl (Nat.le_of_ble_eq_true rfl) dX1_init_26 (fun H locs hP hD hS => ?_)
  have hw : gSt D A s [(q0, .inr (1, [.ref q1, .ref q2, .ref q3, .int 0, .null, .int 0])), (q1, .inl (d, 180, .inl (fun _ => 0))), (q2, .inl (d, 60, .inl (fun _ => 0))), (q3, .inl (d, 60, .inl (fun _ => 0)))] H locs := ⟨hP, hD, hS⟩
  refine lv_aload_n hx hb dX1_init_29 rfl (lv_at hl 0 rfl) ?_
  refine lv_iconst (v := 3) hx hb dX1_init_30 (by decide) ?_
  refine g_newa hx hb hts hK hA hw 3 (by decide) (by decide) (by decide) (Nat.le_of_ble_eq_true rfl) (Nat.le_of_ble_eq_true rfl) dX1_init_31 (fun q4 H hw => ?_)
  refine W.widen (k := 4) (n := 303) (Nat.le_refl _) (Nat.le_refl _) ?_
  have hw : gSt D A s [(q0, .inr (1, [.ref q1, .ref q2, .ref q3, .int 0, .null, .int 0])), (q1, .inl (d, 180, .inl (fun _ => 0))), (q2, .inl (d, 60, .inl (fun _ => 0))), (q3, .inl (d, 60, .inl (fun _ => 0))), (q4, .inl (d, 3, .inl (fun _ => 0)))] H _ := hw
  refine va_putF (D := D) (ci := 1) (v := .ref q4) (ty := .array .int) (C := RX1) (T := TX1) (N := 6) hx hb hts in_X1 tyX1 tyX1_ok nmX1 hown hK hw.1 hw.2.1 hw.2.2 0 rfl rfl 4 (by decide) (hts _ q210) (fun _ h9 => h9) rfl hin rfl (by decide +kernel) rfl rfl (Nat.le_of_ble_eq_true rfl) dX1_init_33 (fun H locs hP hD hS => ?_)
  have hw : gSt D A s [(q0, .inr (1, [.ref q1, .ref q2, .ref q3, .int 0, .ref q4, .int 0])), (q1, .inl (d, 180, .inl (fun _ => 0))), (q2, .inl (d, 60, .inl (fun _ => 0))), (q3, .inl (d, 60, .inl (fun _ => 0))), (q4, .inl (d, 3, .inl (fun _ => 0)))] H locs := ⟨hP, hD, hS⟩
  have hw : gSt D A s (gM (fun k => ([q0, q1, q2, q3, q4] : List Nat).getD k 0) d (fun _ => 0) (fun _ => 0) (fun _ => 0) 0 (fun _ => 0) 0) H locs := hw
  exact W.vret hx hb hr (fun t ht hW => ⟨⟨(fun k => ([q0, q1, q2, q3, q4] : List Nat).getD k 0), rfl, rfl, by rw [ht]; exact hw.1, va_K.moved hW.alike hK, by rw [hAe]; exact hw.2.1⟩, hw.2.2.F ht⟩) hw.2.2.2.2 dX1_init_36
end
section
/-! what the law asks of a relation I between the class and its reference: it holds at the start, and every call keeps it with one answer of both -/
def K_down (I : Int32 → (Nat → Int32) → Int32 → (Nat → Int32) → (Nat → Int32) → (Nat → Int32) → Int32 → Int32 → Int32 → (Nat → Int32) → (Nat → Int32) → (Nat → Int32) → (Nat → Int32) → (Nat → Int32) → (Nat → Int32) → (Nat → Int32) → Int32 → (Nat → Int32) → Int32 → Prop) (dep : Int32) (sub : Nat → Int32) (lv : Int32) (siz : Nat → Int32) (ky : Nat → Int32) (va : Nat → Int32) (tot : Int32) (lf : Int32) (sl : Int32) (mk : Nat → Int32) (mv : Nat → Int32) (pk : Nat → Int32) (pv : Nat → Int32) (li : Nat → Int32) (le : Nat → Int32) (vs : Nat → Int32) (nd : Int32) (po : Nat → Int32) (dp : Int32) (z : Int32) : Prop :=
  X0_down_w dep sub z (fun (r : Int32) (dep' : Int32) (sub' : Nat → Int32) => X1_down_w po dp z (fun (r' : Int32) (po' : Nat → Int32) (dp' : Int32) => r = r' ∧ I dep' sub' lv siz ky va tot lf sl mk mv pk pv li le vs nd po' dp'))
def K_up (I : Int32 → (Nat → Int32) → Int32 → (Nat → Int32) → (Nat → Int32) → (Nat → Int32) → Int32 → Int32 → Int32 → (Nat → Int32) → (Nat → Int32) → (Nat → Int32) → (Nat → Int32) → (Nat → Int32) → (Nat → Int32) → (Nat → Int32) → Int32 → (Nat → Int32) → Int32 → Prop) (dep : Int32) (sub : Nat → Int32) (lv : Int32) (siz : Nat → Int32) (ky : Nat → Int32) (va : Nat → Int32) (tot : Int32) (lf : Int32) (sl : Int32) (mk : Nat → Int32) (mv : Nat → Int32) (pk : Nat → Int32) (pv : Nat → Int32) (li : Nat → Int32) (le : Nat → Int32) (vs : Nat → Int32) (nd : Int32) (po : Nat → Int32) (dp : Int32) : Prop :=
  X0_up_w dep (fun (r : Int32) (dep' : Int32) => X1_up_w dp (fun (r' : Int32) (dp' : Int32) => r = r' ∧ I dep' sub lv siz ky va tot lf sl mk mv pk pv li le vs nd po dp'))
def K_turn (I : Int32 → (Nat → Int32) → Int32 → (Nat → Int32) → (Nat → Int32) → (Nat → Int32) → Int32 → Int32 → Int32 → (Nat → Int32) → (Nat → Int32) → (Nat → Int32) → (Nat → Int32) → (Nat → Int32) → (Nat → Int32) → (Nat → Int32) → Int32 → (Nat → Int32) → Int32 → Prop) (dep : Int32) (sub : Nat → Int32) (lv : Int32) (siz : Nat → Int32) (ky : Nat → Int32) (va : Nat → Int32) (tot : Int32) (lf : Int32) (sl : Int32) (mk : Nat → Int32) (mv : Nat → Int32) (pk : Nat → Int32) (pv : Nat → Int32) (li : Nat → Int32) (le : Nat → Int32) (vs : Nat → Int32) (nd : Int32) (po : Nat → Int32) (dp : Int32) (z : Int32) : Prop :=
  X0_turn_w dep sub z (fun (r : Int32) (sub' : Nat → Int32) => X1_turn_w po dp z (fun (r' : Int32) (po' : Nat → Int32) => r = r' ∧ I dep sub' lv siz ky va tot lf sl mk mv pk pv li le vs nd po' dp))
def K_set (I : Int32 → (Nat → Int32) → Int32 → (Nat → Int32) → (Nat → Int32) → (Nat → Int32) → Int32 → Int32 → Int32 → (Nat → Int32) → (Nat → Int32) → (Nat → Int32) → (Nat → Int32) → (Nat → Int32) → (Nat → Int32) → (Nat → Int32) → Int32 → (Nat → Int32) → Int32 → Prop) (dep : Int32) (sub : Nat → Int32) (lv : Int32) (siz : Nat → Int32) (ky : Nat → Int32) (va : Nat → Int32) (tot : Int32) (lf : Int32) (sl : Int32) (mk : Nat → Int32) (mv : Nat → Int32) (pk : Nat → Int32) (pv : Nat → Int32) (li : Nat → Int32) (le : Nat → Int32) (vs : Nat → Int32) (nd : Int32) (po : Nat → Int32) (dp : Int32) (z : Int32) : Prop :=
  X0_set_w dep sub lv siz ky va tot lf sl pk pv z (fun (r : Int32) (lv' : Int32) (siz' : Nat → Int32) (ky' : Nat → Int32) (va' : Nat → Int32) (tot' : Int32) (lf' : Int32) (sl' : Int32) (pk' : Nat → Int32) (pv' : Nat → Int32) => X1_set_w li le vs nd po dp z (fun (r' : Int32) (li' : Nat → Int32) (le' : Nat → Int32) (vs' : Nat → Int32) (nd' : Int32) => r = r' ∧ I dep sub lv' siz' ky' va' tot' lf' sl' mk mv pk' pv' li' le' vs' nd' po dp))
def K_increment (I : Int32 → (Nat → Int32) → Int32 → (Nat → Int32) → (Nat → Int32) → (Nat → Int32) → Int32 → Int32 → Int32 → (Nat → Int32) → (Nat → Int32) → (Nat → Int32) → (Nat → Int32) → (Nat → Int32) → (Nat → Int32) → (Nat → Int32) → Int32 → (Nat → Int32) → Int32 → Prop) (dep : Int32) (sub : Nat → Int32) (lv : Int32) (siz : Nat → Int32) (ky : Nat → Int32) (va : Nat → Int32) (tot : Int32) (lf : Int32) (sl : Int32) (mk : Nat → Int32) (mv : Nat → Int32) (pk : Nat → Int32) (pv : Nat → Int32) (li : Nat → Int32) (le : Nat → Int32) (vs : Nat → Int32) (nd : Int32) (po : Nat → Int32) (dp : Int32) (z : Int32) : Prop :=
  X0_increment_w dep sub lv siz ky va tot lf sl pk pv z (fun (r : Int32) (lv' : Int32) (siz' : Nat → Int32) (ky' : Nat → Int32) (va' : Nat → Int32) (tot' : Int32) (lf' : Int32) (sl' : Int32) (pk' : Nat → Int32) (pv' : Nat → Int32) => X1_increment_w li le vs nd po dp z (fun (r' : Int32) (li' : Nat → Int32) (le' : Nat → Int32) (vs' : Nat → Int32) (nd' : Int32) => r = r' ∧ I dep sub lv' siz' ky' va' tot' lf' sl' mk mv pk' pv' li' le' vs' nd' po dp))
def K_kill (I : Int32 → (Nat → Int32) → Int32 → (Nat → Int32) → (Nat → Int32) → (Nat → Int32) → Int32 → Int32 → Int32 → (Nat → Int32) → (Nat → Int32) → (Nat → Int32) → (Nat → Int32) → (Nat → Int32) → (Nat → Int32) → (Nat → Int32) → Int32 → (Nat → Int32) → Int32 → Prop) (dep : Int32) (sub : Nat → Int32) (lv : Int32) (siz : Nat → Int32) (ky : Nat → Int32) (va : Nat → Int32) (tot : Int32) (lf : Int32) (sl : Int32) (mk : Nat → Int32) (mv : Nat → Int32) (pk : Nat → Int32) (pv : Nat → Int32) (li : Nat → Int32) (le : Nat → Int32) (vs : Nat → Int32) (nd : Int32) (po : Nat → Int32) (dp : Int32) : Prop :=
  X0_kill_w dep sub lv siz ky va tot (fun (r : Int32) (lv' : Int32) (siz' : Nat → Int32) (ky' : Nat → Int32) (va' : Nat → Int32) (tot' : Int32) (lf' : Int32) (sl' : Int32) => X1_kill_w li le vs nd po dp (fun (r' : Int32) (li' : Nat → Int32) (le' : Nat → Int32) (vs' : Nat → Int32) (nd' : Int32) => r = r' ∧ I dep sub lv' siz' ky' va' tot' lf' sl' mk mv pk pv li' le' vs' nd' po dp))
def K_merge (I : Int32 → (Nat → Int32) → Int32 → (Nat → Int32) → (Nat → Int32) → (Nat → Int32) → Int32 → Int32 → Int32 → (Nat → Int32) → (Nat → Int32) → (Nat → Int32) → (Nat → Int32) → (Nat → Int32) → (Nat → Int32) → (Nat → Int32) → Int32 → (Nat → Int32) → Int32 → Prop) (dep : Int32) (sub : Nat → Int32) (lv : Int32) (siz : Nat → Int32) (ky : Nat → Int32) (va : Nat → Int32) (tot : Int32) (lf : Int32) (sl : Int32) (mk : Nat → Int32) (mv : Nat → Int32) (pk : Nat → Int32) (pv : Nat → Int32) (li : Nat → Int32) (le : Nat → Int32) (vs : Nat → Int32) (nd : Int32) (po : Nat → Int32) (dp : Int32) (z : Int32) : Prop :=
  X0_merge_w dep sub lv siz ky va tot lf sl mk mv pk pv z (fun (r : Int32) (lv' : Int32) (siz' : Nat → Int32) (ky' : Nat → Int32) (va' : Nat → Int32) (tot' : Int32) (lf' : Int32) (sl' : Int32) (mk' : Nat → Int32) (mv' : Nat → Int32) (pk' : Nat → Int32) (pv' : Nat → Int32) => X1_merge_w li le vs nd po dp z (fun (r' : Int32) (li' : Nat → Int32) (le' : Nat → Int32) (vs' : Nat → Int32) (nd' : Int32) => r = r' ∧ I dep sub lv' siz' ky' va' tot' lf' sl' mk' mv' pk' pv' li' le' vs' nd' po dp))
def K_data (I : Int32 → (Nat → Int32) → Int32 → (Nat → Int32) → (Nat → Int32) → (Nat → Int32) → Int32 → Int32 → Int32 → (Nat → Int32) → (Nat → Int32) → (Nat → Int32) → (Nat → Int32) → (Nat → Int32) → (Nat → Int32) → (Nat → Int32) → Int32 → (Nat → Int32) → Int32 → Prop) (dep : Int32) (sub : Nat → Int32) (lv : Int32) (siz : Nat → Int32) (ky : Nat → Int32) (va : Nat → Int32) (tot : Int32) (lf : Int32) (sl : Int32) (mk : Nat → Int32) (mv : Nat → Int32) (pk : Nat → Int32) (pv : Nat → Int32) (li : Nat → Int32) (le : Nat → Int32) (vs : Nat → Int32) (nd : Int32) (po : Nat → Int32) (dp : Int32) : Prop :=
  X0_data_w dep sub lv siz ky (fun (r : Int32) (lf' : Int32) (sl' : Int32) => X1_data_w li le nd po dp (fun (r' : Int32) => r = r' ∧ I dep sub lv siz ky va tot lf' sl' mk mv pk pv li le vs nd po dp))
def K_value (I : Int32 → (Nat → Int32) → Int32 → (Nat → Int32) → (Nat → Int32) → (Nat → Int32) → Int32 → Int32 → Int32 → (Nat → Int32) → (Nat → Int32) → (Nat → Int32) → (Nat → Int32) → (Nat → Int32) → (Nat → Int32) → (Nat → Int32) → Int32 → (Nat → Int32) → Int32 → Prop) (dep : Int32) (sub : Nat → Int32) (lv : Int32) (siz : Nat → Int32) (ky : Nat → Int32) (va : Nat → Int32) (tot : Int32) (lf : Int32) (sl : Int32) (mk : Nat → Int32) (mv : Nat → Int32) (pk : Nat → Int32) (pv : Nat → Int32) (li : Nat → Int32) (le : Nat → Int32) (vs : Nat → Int32) (nd : Int32) (po : Nat → Int32) (dp : Int32) : Prop :=
  X0_value_w dep sub lv siz ky va lf sl (fun (r : Int32) (lf' : Int32) (sl' : Int32) => X1_value_w li le vs nd po dp (fun (r' : Int32) => r = r' ∧ I dep sub lv siz ky va tot lf' sl' mk mv pk pv li le vs nd po dp))
def K_next (I : Int32 → (Nat → Int32) → Int32 → (Nat → Int32) → (Nat → Int32) → (Nat → Int32) → Int32 → Int32 → Int32 → (Nat → Int32) → (Nat → Int32) → (Nat → Int32) → (Nat → Int32) → (Nat → Int32) → (Nat → Int32) → (Nat → Int32) → Int32 → (Nat → Int32) → Int32 → Prop) (dep : Int32) (sub : Nat → Int32) (lv : Int32) (siz : Nat → Int32) (ky : Nat → Int32) (va : Nat → Int32) (tot : Int32) (lf : Int32) (sl : Int32) (mk : Nat → Int32) (mv : Nat → Int32) (pk : Nat → Int32) (pv : Nat → Int32) (li : Nat → Int32) (le : Nat → Int32) (vs : Nat → Int32) (nd : Int32) (po : Nat → Int32) (dp : Int32) : Prop :=
  X0_next_w dep sub lv siz ky lf sl (fun (r : Int32) (lf' : Int32) (sl' : Int32) => X1_next_w li le nd po dp (fun (r' : Int32) => r = r' ∧ I dep sub lv siz ky va tot lf' sl' mk mv pk pv li le vs nd po dp))
def K_previous (I : Int32 → (Nat → Int32) → Int32 → (Nat → Int32) → (Nat → Int32) → (Nat → Int32) → Int32 → Int32 → Int32 → (Nat → Int32) → (Nat → Int32) → (Nat → Int32) → (Nat → Int32) → (Nat → Int32) → (Nat → Int32) → (Nat → Int32) → Int32 → (Nat → Int32) → Int32 → Prop) (dep : Int32) (sub : Nat → Int32) (lv : Int32) (siz : Nat → Int32) (ky : Nat → Int32) (va : Nat → Int32) (tot : Int32) (lf : Int32) (sl : Int32) (mk : Nat → Int32) (mv : Nat → Int32) (pk : Nat → Int32) (pv : Nat → Int32) (li : Nat → Int32) (le : Nat → Int32) (vs : Nat → Int32) (nd : Int32) (po : Nat → Int32) (dp : Int32) : Prop :=
  X0_previous_w dep sub lv siz ky lf sl (fun (r : Int32) (lf' : Int32) (sl' : Int32) => X1_previous_w li le nd po dp (fun (r' : Int32) => r = r' ∧ I dep sub lv siz ky va tot lf' sl' mk mv pk pv li le vs nd po dp))
def K_first (I : Int32 → (Nat → Int32) → Int32 → (Nat → Int32) → (Nat → Int32) → (Nat → Int32) → Int32 → Int32 → Int32 → (Nat → Int32) → (Nat → Int32) → (Nat → Int32) → (Nat → Int32) → (Nat → Int32) → (Nat → Int32) → (Nat → Int32) → Int32 → (Nat → Int32) → Int32 → Prop) (dep : Int32) (sub : Nat → Int32) (lv : Int32) (siz : Nat → Int32) (ky : Nat → Int32) (va : Nat → Int32) (tot : Int32) (lf : Int32) (sl : Int32) (mk : Nat → Int32) (mv : Nat → Int32) (pk : Nat → Int32) (pv : Nat → Int32) (li : Nat → Int32) (le : Nat → Int32) (vs : Nat → Int32) (nd : Int32) (po : Nat → Int32) (dp : Int32) : Prop :=
  X0_first_w dep sub lv siz ky lf sl (fun (r : Int32) (lf' : Int32) (sl' : Int32) => X1_first_w li le nd po dp (fun (r' : Int32) => r = r' ∧ I dep sub lv siz ky va tot lf' sl' mk mv pk pv li le vs nd po dp))
def K_query (I : Int32 → (Nat → Int32) → Int32 → (Nat → Int32) → (Nat → Int32) → (Nat → Int32) → Int32 → Int32 → Int32 → (Nat → Int32) → (Nat → Int32) → (Nat → Int32) → (Nat → Int32) → (Nat → Int32) → (Nat → Int32) → (Nat → Int32) → Int32 → (Nat → Int32) → Int32 → Prop) (dep : Int32) (sub : Nat → Int32) (lv : Int32) (siz : Nat → Int32) (ky : Nat → Int32) (va : Nat → Int32) (tot : Int32) (lf : Int32) (sl : Int32) (mk : Nat → Int32) (mv : Nat → Int32) (pk : Nat → Int32) (pv : Nat → Int32) (li : Nat → Int32) (le : Nat → Int32) (vs : Nat → Int32) (nd : Int32) (po : Nat → Int32) (dp : Int32) : Prop :=
  X0_query_w dep sub lv siz ky va (fun (r : Int32) (lf' : Int32) (sl' : Int32) => X1_query_w li le vs nd po dp (fun (r' : Int32) => r = r' ∧ I dep sub lv siz ky va tot lf' sl' mk mv pk pv li le vs nd po dp))
def K_before (I : Int32 → (Nat → Int32) → Int32 → (Nat → Int32) → (Nat → Int32) → (Nat → Int32) → Int32 → Int32 → Int32 → (Nat → Int32) → (Nat → Int32) → (Nat → Int32) → (Nat → Int32) → (Nat → Int32) → (Nat → Int32) → (Nat → Int32) → Int32 → (Nat → Int32) → Int32 → Prop) (dep : Int32) (sub : Nat → Int32) (lv : Int32) (siz : Nat → Int32) (ky : Nat → Int32) (va : Nat → Int32) (tot : Int32) (lf : Int32) (sl : Int32) (mk : Nat → Int32) (mv : Nat → Int32) (pk : Nat → Int32) (pv : Nat → Int32) (li : Nat → Int32) (le : Nat → Int32) (vs : Nat → Int32) (nd : Int32) (po : Nat → Int32) (dp : Int32) : Prop :=
  X0_before_w dep sub lv siz ky (fun (r : Int32) (lf' : Int32) (sl' : Int32) => X1_before_w li le nd po dp (fun (r' : Int32) => r = r' ∧ I dep sub lv siz ky va tot lf' sl' mk mv pk pv li le vs nd po dp))
def K_count (I : Int32 → (Nat → Int32) → Int32 → (Nat → Int32) → (Nat → Int32) → (Nat → Int32) → Int32 → Int32 → Int32 → (Nat → Int32) → (Nat → Int32) → (Nat → Int32) → (Nat → Int32) → (Nat → Int32) → (Nat → Int32) → (Nat → Int32) → Int32 → (Nat → Int32) → Int32 → Prop) (dep : Int32) (sub : Nat → Int32) (lv : Int32) (siz : Nat → Int32) (ky : Nat → Int32) (va : Nat → Int32) (tot : Int32) (lf : Int32) (sl : Int32) (mk : Nat → Int32) (mv : Nat → Int32) (pk : Nat → Int32) (pv : Nat → Int32) (li : Nat → Int32) (le : Nat → Int32) (vs : Nat → Int32) (nd : Int32) (po : Nat → Int32) (dp : Int32) : Prop :=
  X0_count_w tot (fun (r : Int32) => X1_count_w nd (fun (r' : Int32) => r = r' ∧ I dep sub lv siz ky va tot lf sl mk mv pk pv li le vs nd po dp))
def LawI (I : Int32 → (Nat → Int32) → Int32 → (Nat → Int32) → (Nat → Int32) → (Nat → Int32) → Int32 → Int32 → Int32 → (Nat → Int32) → (Nat → Int32) → (Nat → Int32) → (Nat → Int32) → (Nat → Int32) → (Nat → Int32) → (Nat → Int32) → Int32 → (Nat → Int32) → Int32 → Prop) : Prop :=
  I 0 (fun _ => 0) 1 (fun _ => 0) (fun _ => 0) (fun _ => 0) 0 0 0 (fun _ => 0) (fun _ => 0) (fun _ => 0) (fun _ => 0) (fun _ => 0) (fun _ => 0) (fun _ => 0) 0 (fun _ => 0) 0
  ∧ ∀ (dep : Int32) (sub : Nat → Int32) (lv : Int32) (siz : Nat → Int32) (ky : Nat → Int32) (va : Nat → Int32) (tot : Int32) (lf : Int32) (sl : Int32) (mk : Nat → Int32) (mv : Nat → Int32) (pk : Nat → Int32) (pv : Nat → Int32) (li : Nat → Int32) (le : Nat → Int32) (vs : Nat → Int32) (nd : Int32) (po : Nat → Int32) (dp : Int32), I dep sub lv siz ky va tot lf sl mk mv pk pv li le vs nd po dp →
    (∀ z : Int32, K_down I dep sub lv siz ky va tot lf sl mk mv pk pv li le vs nd po dp z)
    ∧ K_up I dep sub lv siz ky va tot lf sl mk mv pk pv li le vs nd po dp
    ∧ (∀ z : Int32, K_turn I dep sub lv siz ky va tot lf sl mk mv pk pv li le vs nd po dp z)
    ∧ (∀ z : Int32, K_set I dep sub lv siz ky va tot lf sl mk mv pk pv li le vs nd po dp z)
    ∧ (∀ z : Int32, K_increment I dep sub lv siz ky va tot lf sl mk mv pk pv li le vs nd po dp z)
    ∧ K_kill I dep sub lv siz ky va tot lf sl mk mv pk pv li le vs nd po dp
    ∧ (∀ z : Int32, K_merge I dep sub lv siz ky va tot lf sl mk mv pk pv li le vs nd po dp z)
    ∧ K_data I dep sub lv siz ky va tot lf sl mk mv pk pv li le vs nd po dp
    ∧ K_value I dep sub lv siz ky va tot lf sl mk mv pk pv li le vs nd po dp
    ∧ K_next I dep sub lv siz ky va tot lf sl mk mv pk pv li le vs nd po dp
    ∧ K_previous I dep sub lv siz ky va tot lf sl mk mv pk pv li le vs nd po dp
    ∧ K_first I dep sub lv siz ky va tot lf sl mk mv pk pv li le vs nd po dp
    ∧ K_query I dep sub lv siz ky va tot lf sl mk mv pk pv li le vs nd po dp
    ∧ K_before I dep sub lv siz ky va tot lf sl mk mv pk pv li le vs nd po dp
    ∧ K_count I dep sub lv siz ky va tot lf sl mk mv pk pv li le vs nd po dp
end
section
theorem law_le {L k : Nat} (hL : L ≤ 128) (h2 : 2 * k ≤ L + 1) (c : ¬ Int32.ofNat L - 2 < nI (2 * k)) : 2 * k + 2 ≤ L := by
  rcases Nat.lt_or_ge L (2 * k + 2) with h | h
  · exfalso
    apply c
    rw [Int32.lt_iff_toInt_lt, nI_toInt (by omega)]
    have := pk_sub_toInt (a := L) (b := 2) (by omega) (by omega)
    rw [show Int32.ofNat L - 2 = nI L - nI 2 from rfl, this]
    omega
  · exact h
/-! THE CLAIM OUT OF ONE WALK OF THE LAW'S BODY. Your part is whole_start (and what it stands on); all else here is the same for every law, but numbers. -/
def R_law : String := "GlobalTreeLaw"
def lw_P (b : Addr) (xs : List Int32) (args : Array Value) (s : State) : Prop := args = #[.ref b] ∧ s.IntsAt b xs ∧ xs.length ≤ 128 ∧ (Jvm.Cond.and given_1 narrow_1).before args s = true
def lw_Q (_ : Array Value) (s : State) (o : Outcome) (t : State) : Prop := o = .returned (some (.int 1)) ∧ Framed s o t [] 600000 7290000
def lw_Z (below : List Frame) (a : Array Value) (s : State) : State → Prop := fun t => ∃ o, t.status = .running ∧ Ended t below o ∧ lw_Q a s o t
/-- the law's own end, with 1 on the stack, nothing written that was there before, its room as the claim has it -/
theorem lw_ret {p : Program} {l : Launch} {e : Env} {s : State} {m : MethodId} {below : List Frame} {meth : Method} {c : Code} {b : Nat} (hx : p.tables.exec = Jvm.exec) (hb : c.code = code) (hr : meth.sig.returnType = ret) (hlocks : meth.locks = false) {pc : Nat} {H : Heap} {ls : Array Slot} (hdg : decode code pc = .ok (.ireturn, 1)) : W p l e room_1 s m #[Value.ref b] below meth c H [] 600000 7290000 (lw_Z below #[Value.ref b] s) (F0 m pc ls [.int 1]) := by
  intro T hT X
  obtain ⟨fs, hret, hrun, hended, hW, hframe⟩ := X.leave (v := some (.int 1)) (hlocks := hlocks) (fun h => by rw [hr] at h; cases h)
  have hmeth' : T.vm.method? m = some meth := X.method'
  refine ⟨T.setFrames fs, ?_, .returned (some (.int 1)), hrun, hended, rfl, ⟨_, rfl⟩, hW, hframe⟩
  jvm_step X.here [X.here.top, hx, hb, hdg, hmeth', hr, ret, narrow_b1]
  (try refine ⟨rfl, ?_⟩); (try refine ⟨rfl, ?_⟩)
  first | (intro acts; rw [hret _ acts rfl rfl rfl]) | rw [hret _ _ rfl rfl rfl]
  exact Steps.refl _
/-- what holds at the law's entry: the machine, the code, the tables' words (any of lw_tbl by 'hts w (by decide +kernel)'), the script of L ints xs at the cell b, what the Statement gives of the start (any of its parts by flat_of_before) -/
def lw_At (p : Program) (s : State) (m : MethodId) (meth : Method) (c : Code) (b L : Nat) (xs : Nat → Int32) : Prop :=
  p.tables.exec = Jvm.exec ∧ c.code = code ∧ meth.sig.returnType = ret ∧ c.maxLocals = 4 ∧ s.vm.findClass R_law = some m.cls ∧ (∀ w ∈ lw_tbl, w.before #[Value.ref b] s = true) ∧ va_X b L xs s s.heap ∧ b < s.heap.size ∧ meth.locks = false ∧ (Jvm.Cond.and given_1 narrow_1).before #[Value.ref b] s = true
set_option maxHeartbeats 8000000 in
set_option maxRecDepth 100000 in
/-- the law's loop at its head -/
theorem law_loop {p : Program} {l : Launch} {e : Env} {s : State} {m : MethodId} {below : List Frame} {meth : Method} {c : Code} {b L : Nat} {xs : Nat → Int32} {D : va_G} {d : ClassId} {I : Int32 → (Nat → Int32) → Int32 → (Nat → Int32) → (Nat → Int32) → (Nat → Int32) → Int32 → Int32 → Int32 → (Nat → Int32) → (Nat → Int32) → (Nat → Int32) → (Nat → Int32) → (Nat → Int32) → (Nat → Int32) → (Nat → Int32) → Int32 → (Nat → Int32) → Int32 → Prop} (hI : LawI I) (hL : L ≤ 128) (C : gCx R_law code 4 ret D d (fun q : Nat => s.heap.size ≤ q) p s m #[Value.ref b] meth c) (hX : va_X b L xs s s.heap) (hbl : b < s.heap.size) (a a' : Nat → Nat) :
    ∀ (n k : Nat) (x3 : Int32) (dep : Int32) (sub : Nat → Int32) (lv : Int32) (siz : Nat → Int32) (ky : Nat → Int32) (va : Nat → Int32) (tot : Int32) (lf : Int32) (sl : Int32) (mk : Nat → Int32) (mv : Nat → Int32) (pk : Nat → Int32) (pv : Nat → Int32) (li : Nat → Int32) (le : Nat → Int32) (vs : Nat → Int32) (nd : Int32) (po : Nat → Int32) (dp : Int32) (H : Heap) (locs : List Loc) (ls : Array Slot), L + 2 ≤ 2 * k + 2 * n → 2 * k ≤ L + 1 → x3 = nI (2 * k) → I dep sub lv siz ky va tot lf sl mk mv pk pv li le vs nd po dp → gSt D (fun q : Nat => s.heap.size ≤ q) s (gT a d dep sub lv siz ky va tot lf sl mk mv pk pv ++ gM a' d li le vs nd po dp) H locs → lv_has ls 4 [(0, .ref b), (1, .ref (a 0)), (2, .ref (a' 0)), (3, .int x3)] → W p l e room_1 s m #[Value.ref b] below meth c H locs 14 1109 (lw_Z below #[Value.ref b] s) (F0 m 18 ls []) := by
  have hx := C.1.1
  have hb := C.1.2.1
  have hts := C.1.2.2.2.2
  have hbA : ¬ (fun q : Nat => s.heap.size ≤ q) b := Nat.not_le.mpr hbl
  intro n
  induction n with
  | zero =>
    intro k x3 dep sub lv siz ky va tot lf sl mk mv pk pv li le vs nd po dp H locs ls h1 h2
    exact absurd h1 (by omega)
  | succ n ih =>
    intro k x3 dep sub lv siz ky va tot lf sl mk mv pk pv li le vs nd po dp H locs ls h1 h2 ex3 hI0 hw hl
    have hn : ∀ (x3' : Int32) (dep : Int32) (sub : Nat → Int32) (lv : Int32) (siz : Nat → Int32) (ky : Nat → Int32) (va : Nat → Int32) (tot : Int32) (lf : Int32) (sl : Int32) (mk : Nat → Int32) (mv : Nat → Int32) (pk : Nat → Int32) (pv : Nat → Int32) (li : Nat → Int32) (le : Nat → Int32) (vs : Nat → Int32) (nd : Int32) (po : Nat → Int32) (dp : Int32) (H : Heap) (locs : List Loc) (ls : Array Slot), x3' = x3 → 2 * k + 2 ≤ L → I dep sub lv siz ky va tot lf sl mk mv pk pv li le vs nd po dp → gSt D (fun q : Nat => s.heap.size ≤ q) s (gT a d dep sub lv siz ky va tot lf sl mk mv pk pv ++ gM a' d li le vs nd po dp) H locs → lv_has ls 4 [(0, .ref b), (1, .ref (a 0)), (2, .ref (a' 0)), (3, .int x3')] → W p l e room_1 s m #[Value.ref b] below meth c H locs 14 1109 (lw_Z below #[Value.ref b] s) (F0 m 353 ls []) := by
      intro x3' dep sub lv siz ky va tot lf sl mk mv pk pv li le vs nd po dp H locs ls e3 hk hI0 hw hl
      refine lv_iinc (v := (x3' + 2)) (lv' := [(3, .int (x3' + 2)), (0, .ref b), (1, .ref (a 0)), (2, .ref (a' 0))]) hx hb dL_law_353 hl (k := 3) rfl rfl (by decide) rfl (fun ls hl => ?_)
      refine lv_goto (tgt := 18) hx hb dL_law_356 (by decide) ?_
      exact ih (k + 1) _ _ _ _ _ _ _ _ _ _ _ _ _ _ _ _ _ _ _ _ _ _ _ (by omega) (by omega) (by rw [e3, ex3]; exact nI_add (2 * k) 2) hI0 hw (lv_sub hl [1, 2, 3, 0] rfl)
    refine lv_iload_n hx hb dL_law_18 rfl (lv_at hl 3 rfl) ?_
    refine lv_aload_n hx hb dL_law_19 rfl (lv_at hl 0 rfl) ?_
    refine va_slen hx hb hX hbl hbA hw.2.2 dL_law_20 ?_
    refine lv_iconst (v := 2) hx hb dL_law_21 (by decide) ?_
    refine lv_isub hx hb dL_law_22 ?_
    refine lv_icmp_gt (tgt := 359) hx hb dL_law_23 (by decide) (fun c1 => ?_) (fun c1 => ?_)
    · refine lv_iconst (v := 1) hx hb dL_law_359 (by decide) ?_
      refine va_forget (fun q hq => hw.2.2.2.2 q hq) ?_
      refine W.widen (k := 600000) (n := 7290000) (by decide) (by decide) ?_
      exact lw_ret hx hb C.2.2.1 C.2.2.2.1 dL_law_360
    · have hk : 2 * k + 2 ≤ L := law_le hL h2 (by rw [ex3] at c1; exact c1)
      have hi0 : vp_in x3 L := by rw [ex3]; exact vp_in_nI (by omega) (by omega)
      have hi1 : vp_in (x3 + 1) L := by rw [ex3, nI_1]; exact vp_in_nI (by omega) (by omega)
      have hIs := hI.2 dep sub lv siz ky va tot lf sl mk mv pk pv li le vs nd po dp hI0
      refine lv_aload_n hx hb dL_law_26 rfl (lv_at hl 0 rfl) ?_
      refine lv_iload_n hx hb dL_law_27 rfl (lv_at hl 3 rfl) ?_
      refine va_sld hx hb hX hbl hbA hw.2.2 hi0 dL_law_28 ?_
      refine lv_bipush (v := 15) hx hb dL_law_29 (by decide) ?_
      refine lv_iand hx hb dL_law_31 ?_
      obtain ⟨j, hj, ej⟩ := pk_andE (xs x3.toNatClampNeg) (m := 15) 4 (by decide)
      rw [ej]
      have hj : j < 16 := hj
      rcases (show j = 0 ∨ j = 1 ∨ j = 2 ∨ j = 3 ∨ j = 4 ∨ j = 5 ∨ j = 6 ∨ j = 7 ∨ j = 8 ∨ j = 9 ∨ j = 10 ∨ j = 11 ∨ j = 12 ∨ j = 13 ∨ j = 14 ∨ j = 15 by omega) with rfl | rfl | rfl | rfl | rfl | rfl | rfl | rfl | rfl | rfl | rfl | rfl | rfl | rfl | rfl | rfl
      · refine lv_tableIn (off := 76) (tgt := 108) hx hb dL_law_32 (by decide) (by decide) (by decide) (by decide) ?_
        have h := hIs.1 (xs (x3 + 1).toNatClampNeg)
        unfold K_down at h
        refine lv_aload_n hx hb dL_law_108 rfl (lv_at hl 1 rfl) ?_
        refine lv_aload_n hx hb dL_law_109 rfl (lv_at hl 0 rfl) ?_
        refine lv_iload_n hx hb dL_law_110 rfl (lv_at hl 3 rfl) ?_
        refine lv_iconst (v := 1) hx hb dL_law_111 (by decide) ?_
        refine lv_iadd hx hb dL_law_112 ?_
        refine va_sld hx hb hX hbl hbA hw.2.2 hi1 dL_law_113 ?_
        refine g_callVir (rest := []) (C) (c_X0_down l D a d _ _ _ _ _ _ _ _ _ _ _ _ _ (xs (x3 + 1).toNatClampNeg) h) 13 RX0 (lw_V q74 q75 q76 q23 q77) (na := 1) (by decide +kernel) rfl (by decide) 0 rfl rfl rfl hw hl.1 rfl (Nat.le_of_ble_eq_true rfl) ⟨by decide, by decide⟩ dL_law_114 (fun r0 u0 H locs h hw => ?_)
        have hw : gSt D (fun q : Nat => s.heap.size ≤ q) s (gT a d u0.1 u0.2 lv siz ky va tot lf sl mk mv pk pv ++ gM a' d li le vs nd po dp) H locs := hw
        refine lv_aload_n hx hb dL_law_117 rfl (lv_at hl 2 rfl) ?_
        refine lv_aload_n hx hb dL_law_118 rfl (lv_at hl 0 rfl) ?_
        refine lv_iload_n hx hb dL_law_119 rfl (lv_at hl 3 rfl) ?_
        refine lv_iconst (v := 1) hx hb dL_law_120 (by decide) ?_
        refine lv_iadd hx hb dL_law_121 ?_
        refine va_sld hx hb hX hbl hbA hw.2.2 hi1 dL_law_122 ?_
        refine g_callVir (rest := [.int r0]) (C) (c_X1_down l D a' d _ _ _ _ _ _ (xs (x3 + 1).toNatClampNeg) h) 17 RX1 (lw_V q225 q226 q227 q24 q228) (na := 1) (by decide +kernel) rfl (by decide) 1 rfl rfl rfl hw.comm hl.1 rfl (Nat.le_of_ble_eq_true rfl) ⟨by decide, by decide⟩ dL_law_123 (fun r1 u1 H locs h hw => ?_)
        have hw : gSt D (fun q : Nat => s.heap.size ≤ q) s (gT a d u0.1 u0.2 lv siz ky va tot lf sl mk mv pk pv ++ gM a' d li le vs nd u1.1 u1.2) H locs := hw.comm
        refine lv_icmp_eq (tgt := 353) hx hb dL_law_126 (by decide) (fun _ => ?_) (fun c2 => absurd h.1 c2)
        exact hn _ _ _ _ _ _ _ _ _ _ _ _ _ _ _ _ _ _ _ _ _ _ _ rfl hk h.2 hw hl
      · refine lv_tableIn (off := 99) (tgt := 131) hx hb dL_law_32 (by decide) (by decide) (by decide) (by decide) ?_
        have h := hIs.2.1
        unfold K_up at h
        refine lv_aload_n hx hb dL_law_131 rfl (lv_at hl 1 rfl) ?_
        refine g_callVir (rest := []) (C) (c_X0_up l D a d _ _ _ _ _ _ _ _ _ _ _ _ _ h) 18 RX0 (lw_V q81 q82 q83 q23 q84) (na := 0) (by decide +kernel) rfl (by decide) 0 rfl rfl rfl hw hl.1 rfl (Nat.le_of_ble_eq_true rfl) ⟨by decide, by decide⟩ dL_law_132 (fun r0 u0 H locs h hw => ?_)
        have hw : gSt D (fun q : Nat => s.heap.size ≤ q) s (gT a d u0 sub lv siz ky va tot lf sl mk mv pk pv ++ gM a' d li le vs nd po dp) H locs := hw
        refine lv_aload_n hx hb dL_law_135 rfl (lv_at hl 2 rfl) ?_
        refine g_callVir (rest := [.int r0]) (C) (c_X1_up l D a' d _ _ _ _ _ _ h) 22 RX1 (lw_V q233 q234 q235 q24 q236) (na := 0) (by decide +kernel) rfl (by decide) 1 rfl rfl rfl hw.comm hl.1 rfl (Nat.le_of_ble_eq_true rfl) ⟨by decide, by decide⟩ dL_law_136 (fun r1 u1 H locs h hw => ?_)
        have hw : gSt D (fun q : Nat => s.heap.size ≤ q) s (gT a d u0 sub lv siz ky va tot lf sl mk mv pk pv ++ gM a' d li le vs nd po u1) H locs := hw.comm
        refine lv_icmp_eq (tgt := 353) hx hb dL_law_139 (by decide) (fun _ => ?_) (fun c2 => absurd h.1 c2)
        exact hn _ _ _ _ _ _ _ _ _ _ _ _ _ _ _ _ _ _ _ _ _ _ _ rfl hk h.2 hw hl
      · refine lv_tableIn (off := 112) (tgt := 144) hx hb dL_law_32 (by decide) (by decide) (by decide) (by decide) ?_
        have h := hIs.2.2.1 (xs (x3 + 1).toNatClampNeg)
        unfold K_turn at h
        refine lv_aload_n hx hb dL_law_144 rfl (lv_at hl 1 rfl) ?_
        refine lv_aload_n hx hb dL_law_145 rfl (lv_at hl 0 rfl) ?_
        refine lv_iload_n hx hb dL_law_146 rfl (lv_at hl 3 rfl) ?_
        refine lv_iconst (v := 1) hx hb dL_law_147 (by decide) ?_
        refine lv_iadd hx hb dL_law_148 ?_
        refine va_sld hx hb hX hbl hbA hw.2.2 hi1 dL_law_149 ?_
        refine g_callVir (rest := []) (C) (c_X0_turn l D a d _ _ _ _ _ _ _ _ _ _ _ _ _ (xs (x3 + 1).toNatClampNeg) h) 23 RX0 (lw_V q85 q86 q87 q23 q88) (na := 1) (by decide +kernel) rfl (by decide) 0 rfl rfl rfl hw hl.1 rfl (Nat.le_of_ble_eq_true rfl) ⟨by decide, by decide⟩ dL_law_150 (fun r0 u0 H locs h hw => ?_)
        have hw : gSt D (fun q : Nat => s.heap.size ≤ q) s (gT a d dep u0 lv siz ky va tot lf sl mk mv pk pv ++ gM a' d li le vs nd po dp) H locs := hw
        refine lv_aload_n hx hb dL_law_153 rfl (lv_at hl 2 rfl) ?_
        refine lv_aload_n hx hb dL_law_154 rfl (lv_at hl 0 rfl) ?_
        refine lv_iload_n hx hb dL_law_155 rfl (lv_at hl 3 rfl) ?_
        refine lv_iconst (v := 1) hx hb dL_law_156 (by decide) ?_
        refine lv_iadd hx hb dL_law_157 ?_
        refine va_sld hx hb hX hbl hbA hw.2.2 hi1 dL_law_158 ?_
        refine g_callVir (rest := [.int r0]) (C) (c_X1_turn l D a' d _ _ _ _ _ _ (xs (x3 + 1).toNatClampNeg) h) 26 RX1 (lw_V q237 q238 q239 q24 q240) (na := 1) (by decide +kernel) rfl (by decide) 1 rfl rfl rfl hw.comm hl.1 rfl (Nat.le_of_ble_eq_true rfl) ⟨by decide, by decide⟩ dL_law_159 (fun r1 u1 H locs h hw => ?_)
        have hw : gSt D (fun q : Nat => s.heap.size ≤ q) s (gT a d dep u0 lv siz ky va tot lf sl mk mv pk pv ++ gM a' d li le vs nd u1 dp) H locs := hw.comm
        refine lv_icmp_eq (tgt := 353) hx hb dL_law_162 (by decide) (fun _ => ?_) (fun c2 => absurd h.1 c2)
        exact hn _ _ _ _ _ _ _ _ _ _ _ _ _ _ _ _ _ _ _ _ _ _ _ rfl hk h.2 hw hl
      · refine lv_tableIn (off := 135) (tgt := 167) hx hb dL_law_32 (by decide) (by decide) (by decide) (by decide) ?_
        have h := hIs.2.2.2.1 (xs (x3 + 1).toNatClampNeg)
        unfold K_set at h
        refine lv_aload_n hx hb dL_law_167 rfl (lv_at hl 1 rfl) ?_
        refine lv_aload_n hx hb dL_law_168 rfl (lv_at hl 0 rfl) ?_
        refine lv_iload_n hx hb dL_law_169 rfl (lv_at hl 3 rfl) ?_
        refine lv_iconst (v := 1) hx hb dL_law_170 (by decide) ?_
        refine lv_iadd hx hb dL_law_171 ?_
        refine va_sld hx hb hX hbl hbA hw.2.2 hi1 dL_law_172 ?_
        refine g_callVir (rest := []) (C) (c_X0_set l D a d _ _ _ _ _ _ _ _ _ _ _ _ _ (xs (x3 + 1).toNatClampNeg) h) 27 RX0 (lw_V q89 q90 q91 q23 q92) (na := 1) (by decide +kernel) rfl (by decide) 0 rfl rfl rfl hw hl.1 rfl (Nat.le_of_ble_eq_true rfl) ⟨by decide, by decide⟩ dL_law_173 (fun r0 u0 H locs h hw => ?_)
        have hw : gSt D (fun q : Nat => s.heap.size ≤ q) s (gT a d dep sub u0.1 u0.2.1 u0.2.2.1 u0.2.2.2.1 u0.2.2.2.2.1 u0.2.2.2.2.2.1 u0.2.2.2.2.2.2.1 mk mv u0.2.2.2.2.2.2.2.1 u0.2.2.2.2.2.2.2.2 ++ gM a' d li le vs nd po dp) H locs := hw
        refine lv_aload_n hx hb dL_law_176 rfl (lv_at hl 2 rfl) ?_
        refine lv_aload_n hx hb dL_law_177 rfl (lv_at hl 0 rfl) ?_
        refine lv_iload_n hx hb dL_law_178 rfl (lv_at hl 3 rfl) ?_
        refine lv_iconst (v := 1) hx hb dL_law_179 (by decide) ?_
        refine lv_iadd hx hb dL_law_180 ?_
        refine va_sld hx hb hX hbl hbA hw.2.2 hi1 dL_law_181 ?_
        refine g_callVir (rest := [.int r0]) (C) (c_X1_set l D a' d _ _ _ _ _ _ (xs (x3 + 1).toNatClampNeg) h) 30 RX1 (lw_V q241 q242 q243 q24 q244) (na := 1) (by decide +kernel) rfl (by decide) 1 rfl rfl rfl hw.comm hl.1 rfl (Nat.le_of_ble_eq_true rfl) ⟨by decide, by decide⟩ dL_law_182 (fun r1 u1 H locs h hw => ?_)
        have hw : gSt D (fun q : Nat => s.heap.size ≤ q) s (gT a d dep sub u0.1 u0.2.1 u0.2.2.1 u0.2.2.2.1 u0.2.2.2.2.1 u0.2.2.2.2.2.1 u0.2.2.2.2.2.2.1 mk mv u0.2.2.2.2.2.2.2.1 u0.2.2.2.2.2.2.2.2 ++ gM a' d u1.1 u1.2.1 u1.2.2.1 u1.2.2.2 po dp) H locs := hw.comm
        refine lv_icmp_eq (tgt := 353) hx hb dL_law_185 (by decide) (fun _ => ?_) (fun c2 => absurd h.1 c2)
        exact hn _ _ _ _ _ _ _ _ _ _ _ _ _ _ _ _ _ _ _ _ _ _ _ rfl hk h.2 hw hl
      · refine lv_tableIn (off := 158) (tgt := 190) hx hb dL_law_32 (by decide) (by decide) (by decide) (by decide) ?_
        have h := hIs.2.2.2.2.1 (xs (x3 + 1).toNatClampNeg)
        unfold K_increment at h
        refine lv_aload_n hx hb dL_law_190 rfl (lv_at hl 1 rfl) ?_
        refine lv_aload_n hx hb dL_law_191 rfl (lv_at hl 0 rfl) ?_
        refine lv_iload_n hx hb dL_law_192 rfl (lv_at hl 3 rfl) ?_
        refine lv_iconst (v := 1) hx hb dL_law_193 (by decide) ?_
        refine lv_iadd hx hb dL_law_194 ?_
        refine va_sld hx hb hX hbl hbA hw.2.2 hi1 dL_law_195 ?_
        refine g_callVir (rest := []) (C) (c_X0_increment l D a d _ _ _ _ _ _ _ _ _ _ _ _ _ (xs (x3 + 1).toNatClampNeg) h) 31 RX0 (lw_V q137 q138 q139 q23 q140) (na := 1) (by decide +kernel) rfl (by decide) 0 rfl rfl rfl hw hl.1 rfl (Nat.le_of_ble_eq_true rfl) ⟨by decide, by decide⟩ dL_law_196 (fun r0 u0 H locs h hw => ?_)
        have hw : gSt D (fun q : Nat => s.heap.size ≤ q) s (gT a d dep sub u0.1 u0.2.1 u0.2.2.1 u0.2.2.2.1 u0.2.2.2.2.1 u0.2.2.2.2.2.1 u0.2.2.2.2.2.2.1 mk mv u0.2.2.2.2.2.2.2.1 u0.2.2.2.2.2.2.2.2 ++ gM a' d li le vs nd po dp) H locs := hw
        refine lv_aload_n hx hb dL_law_199 rfl (lv_at hl 2 rfl) ?_
        refine lv_aload_n hx hb dL_law_200 rfl (lv_at hl 0 rfl) ?_
        refine lv_iload_n hx hb dL_law_201 rfl (lv_at hl 3 rfl) ?_
        refine lv_iconst (v := 1) hx hb dL_law_202 (by decide) ?_
        refine lv_iadd hx hb dL_law_203 ?_
        refine va_sld hx hb hX hbl hbA hw.2.2 hi1 dL_law_204 ?_
        refine g_callVir (rest := [.int r0]) (C) (c_X1_increment l D a' d _ _ _ _ _ _ (xs (x3 + 1).toNatClampNeg) h) 34 RX1 (lw_V q253 q254 q255 q24 q256) (na := 1) (by decide +kernel) rfl (by decide) 1 rfl rfl rfl hw.comm hl.1 rfl (Nat.le_of_ble_eq_true rfl) ⟨by decide, by decide⟩ dL_law_205 (fun r1 u1 H locs h hw => ?_)
        have hw : gSt D (fun q : Nat => s.heap.size ≤ q) s (gT a d dep sub u0.1 u0.2.1 u0.2.2.1 u0.2.2.2.1 u0.2.2.2.2.1 u0.2.2.2.2.2.1 u0.2.2.2.2.2.2.1 mk mv u0.2.2.2.2.2.2.2.1 u0.2.2.2.2.2.2.2.2 ++ gM a' d u1.1 u1.2.1 u1.2.2.1 u1.2.2.2 po dp) H locs := hw.comm
        refine lv_icmp_eq (tgt := 353) hx hb dL_law_208 (by decide) (fun _ => ?_) (fun c2 => absurd h.1 c2)
        exact hn _ _ _ _ _ _ _ _ _ _ _ _ _ _ _ _ _ _ _ _ _ _ _ rfl hk h.2 hw hl
      · refine lv_tableIn (off := 181) (tgt := 213) hx hb dL_law_32 (by decide) (by decide) (by decide) (by decide) ?_
        have h := hIs.2.2.2.2.2.1
        unfold K_kill at h
        refine lv_aload_n hx hb dL_law_213 rfl (lv_at hl 1 rfl) ?_
        refine g_callVir (rest := []) (C) (c_X0_kill l D a d _ _ _ _ _ _ _ _ _ _ _ _ _ h) 35 RX0 (lw_V q141 q142 q143 q23 q144) (na := 0) (by decide +kernel) rfl (by decide) 0 rfl rfl rfl hw hl.1 rfl (Nat.le_of_ble_eq_true rfl) ⟨by decide, by decide⟩ dL_law_214 (fun r0 u0 H locs h hw => ?_)
        have hw : gSt D (fun q : Nat => s.heap.size ≤ q) s (gT a d dep sub u0.1 u0.2.1 u0.2.2.1 u0.2.2.2.1 u0.2.2.2.2.1 u0.2.2.2.2.2.1 u0.2.2.2.2.2.2 mk mv pk pv ++ gM a' d li le vs nd po dp) H locs := hw
        refine lv_aload_n hx hb dL_law_217 rfl (lv_at hl 2 rfl) ?_
        refine g_callVir (rest := [.int r0]) (C) (c_X1_kill l D a' d _ _ _ _ _ _ h) 38 RX1 (lw_V q262 q263 q264 q24 q265) (na := 0) (by decide +kernel) rfl (by decide) 1 rfl rfl rfl hw.comm hl.1 rfl (Nat.le_of_ble_eq_true rfl) ⟨by decide, by decide⟩ dL_law_218 (fun r1 u1 H locs h hw => ?_)
        have hw : gSt D (fun q : Nat => s.heap.size ≤ q) s (gT a d dep sub u0.1 u0.2.1 u0.2.2.1 u0.2.2.2.1 u0.2.2.2.2.1 u0.2.2.2.2.2.1 u0.2.2.2.2.2.2 mk mv pk pv ++ gM a' d u1.1 u1.2.1 u1.2.2.1 u1.2.2.2 po dp) H locs := hw.comm
        refine lv_icmp_eq (tgt := 353) hx hb dL_law_221 (by decide) (fun _ => ?_) (fun c2 => absurd h.1 c2)
        exact hn _ _ _ _ _ _ _ _ _ _ _ _ _ _ _ _ _ _ _ _ _ _ _ rfl hk h.2 hw hl
      · refine lv_tableIn (off := 194) (tgt := 226) hx hb dL_law_32 (by decide) (by decide) (by decide) (by decide) ?_
        have h := hIs.2.2.2.2.2.2.1 (xs (x3 + 1).toNatClampNeg)
        unfold K_merge at h
        refine lv_aload_n hx hb dL_law_226 rfl (lv_at hl 1 rfl) ?_
        refine lv_aload_n hx hb dL_law_227 rfl (lv_at hl 0 rfl) ?_
        refine lv_iload_n hx hb dL_law_228 rfl (lv_at hl 3 rfl) ?_
        refine lv_iconst (v := 1) hx hb dL_law_229 (by decide) ?_
        refine lv_iadd hx hb dL_law_230 ?_
        refine va_sld hx hb hX hbl hbA hw.2.2 hi1 dL_law_231 ?_
        refine g_callVir (rest := []) (C) (c_X0_merge l D a d _ _ _ _ _ _ _ _ _ _ _ _ _ (xs (x3 + 1).toNatClampNeg) h) 39 RX0 (lw_V q153 q154 q155 q23 q156) (na := 1) (by decide +kernel) rfl (by decide) 0 rfl rfl rfl hw hl.1 rfl (Nat.le_of_ble_eq_true rfl) ⟨by decide, by decide⟩ dL_law_232 (fun r0 u0 H locs h hw => ?_)
        have hw : gSt D (fun q : Nat => s.heap.size ≤ q) s (gT a d dep sub u0.1 u0.2.1 u0.2.2.1 u0.2.2.2.1 u0.2.2.2.2.1 u0.2.2.2.2.2.1 u0.2.2.2.2.2.2.1 u0.2.2.2.2.2.2.2.1 u0.2.2.2.2.2.2.2.2.1 u0.2.2.2.2.2.2.2.2.2.1 u0.2.2.2.2.2.2.2.2.2.2 ++ gM a' d li le vs nd po dp) H locs := hw
        refine lv_aload_n hx hb dL_law_235 rfl (lv_at hl 2 rfl) ?_
        refine lv_aload_n hx hb dL_law_236 rfl (lv_at hl 0 rfl) ?_
        refine lv_iload_n hx hb dL_law_237 rfl (lv_at hl 3 rfl) ?_
        refine lv_iconst (v := 1) hx hb dL_law_238 (by decide) ?_
        refine lv_iadd hx hb dL_law_239 ?_
        refine va_sld hx hb hX hbl hbA hw.2.2 hi1 dL_law_240 ?_
        refine g_callVir (rest := [.int r0]) (C) (c_X1_merge l D a' d _ _ _ _ _ _ (xs (x3 + 1).toNatClampNeg) h) 42 RX1 (lw_V q266 q267 q268 q24 q269) (na := 1) (by decide +kernel) rfl (by decide) 1 rfl rfl rfl hw.comm hl.1 rfl (Nat.le_of_ble_eq_true rfl) ⟨by decide, by decide⟩ dL_law_241 (fun r1 u1 H locs h hw => ?_)
        have hw : gSt D (fun q : Nat => s.heap.size ≤ q) s (gT a d dep sub u0.1 u0.2.1 u0.2.2.1 u0.2.2.2.1 u0.2.2.2.2.1 u0.2.2.2.2.2.1 u0.2.2.2.2.2.2.1 u0.2.2.2.2.2.2.2.1 u0.2.2.2.2.2.2.2.2.1 u0.2.2.2.2.2.2.2.2.2.1 u0.2.2.2.2.2.2.2.2.2.2 ++ gM a' d u1.1 u1.2.1 u1.2.2.1 u1.2.2.2 po dp) H locs := hw.comm
        refine lv_icmp_eq (tgt := 353) hx hb dL_law_244 (by decide) (fun _ => ?_) (fun c2 => absurd h.1 c2)
        exact hn _ _ _ _ _ _ _ _ _ _ _ _ _ _ _ _ _ _ _ _ _ _ _ rfl hk h.2 hw hl
      · refine lv_tableIn (off := 217) (tgt := 249) hx hb dL_law_32 (by decide) (by decide) (by decide) (by decide) ?_
        have h := hIs.2.2.2.2.2.2.2.1
        unfold K_data at h
        refine lv_aload_n hx hb dL_law_249 rfl (lv_at hl 1 rfl) ?_
        refine g_callVir (rest := []) (C) (c_X0_data l D a d _ _ _ _ _ _ _ _ _ _ _ _ _ h) 43 RX0 (lw_V q157 q158 q159 q23 q160) (na := 0) (by decide +kernel) rfl (by decide) 0 rfl rfl rfl hw hl.1 rfl (Nat.le_of_ble_eq_true rfl) ⟨by decide, by decide⟩ dL_law_250 (fun r0 u0 H locs h hw => ?_)
        have hw : gSt D (fun q : Nat => s.heap.size ≤ q) s (gT a d dep sub lv siz ky va tot u0.1 u0.2 mk mv pk pv ++ gM a' d li le vs nd po dp) H locs := hw
        refine lv_aload_n hx hb dL_law_253 rfl (lv_at hl 2 rfl) ?_
        refine g_callVir (rest := [.int r0]) (C) (c_X1_data l D a' d _ _ _ _ _ _ h) 46 RX1 (lw_V q278 q279 q280 q24 q281) (na := 0) (by decide +kernel) rfl (by decide) 1 rfl rfl rfl hw.comm hl.1 rfl (Nat.le_of_ble_eq_true rfl) ⟨by decide, by decide⟩ dL_law_254 (fun r1 u1 H locs h hw => ?_)
        have hw : gSt D (fun q : Nat => s.heap.size ≤ q) s (gT a d dep sub lv siz ky va tot u0.1 u0.2 mk mv pk pv ++ gM a' d li le vs nd po dp) H locs := hw.comm
        refine lv_icmp_eq (tgt := 353) hx hb dL_law_257 (by decide) (fun _ => ?_) (fun c2 => absurd h.1 c2)
        exact hn _ _ _ _ _ _ _ _ _ _ _ _ _ _ _ _ _ _ _ _ _ _ _ rfl hk h.2 hw hl
      · refine lv_tableIn (off := 230) (tgt := 262) hx hb dL_law_32 (by decide) (by decide) (by decide) (by decide) ?_
        have h := hIs.2.2.2.2.2.2.2.2.1
        unfold K_value at h
        refine lv_aload_n hx hb dL_law_262 rfl (lv_at hl 1 rfl) ?_
        refine g_callVir (rest := []) (C) (c_X0_value l D a d _ _ _ _ _ _ _ _ _ _ _ _ _ h) 47 RX0 (lw_V q165 q166 q167 q23 q168) (na := 0) (by decide +kernel) rfl (by decide) 0 rfl rfl rfl hw hl.1 rfl (Nat.le_of_ble_eq_true rfl) ⟨by decide, by decide⟩ dL_law_263 (fun r0 u0 H locs h hw => ?_)
        have hw : gSt D (fun q : Nat => s.heap.size ≤ q) s (gT a d dep sub lv siz ky va tot u0.1 u0.2 mk mv pk pv ++ gM a' d li le vs nd po dp) H locs := hw
        refine lv_aload_n hx hb dL_law_266 rfl (lv_at hl 2 rfl) ?_
        refine g_callVir (rest := [.int r0]) (C) (c_X1_value l D a' d _ _ _ _ _ _ h) 50 RX1 (lw_V q282 q258 q259 q24 q260) (na := 0) (by decide +kernel) rfl (by decide) 1 rfl rfl rfl hw.comm hl.1 rfl (Nat.le_of_ble_eq_true rfl) ⟨by decide, by decide⟩ dL_law_267 (fun r1 u1 H locs h hw => ?_)
        have hw : gSt D (fun q : Nat => s.heap.size ≤ q) s (gT a d dep sub lv siz ky va tot u0.1 u0.2 mk mv pk pv ++ gM a' d li le vs nd po dp) H locs := hw.comm
        refine lv_icmp_eq (tgt := 353) hx hb dL_law_270 (by decide) (fun _ => ?_) (fun c2 => absurd h.1 c2)
        exact hn _ _ _ _ _ _ _ _ _ _ _ _ _ _ _ _ _ _ _ _ _ _ _ rfl hk h.2 hw hl
      · refine lv_tableIn (off := 243) (tgt := 275) hx hb dL_law_32 (by decide) (by decide) (by decide) (by decide) ?_
        have h := hIs.2.2.2.2.2.2.2.2.2.1
        unfold K_next at h
        refine lv_aload_n hx hb dL_law_275 rfl (lv_at hl 1 rfl) ?_
        refine g_callVir (rest := []) (C) (c_X0_next l D a d _ _ _ _ _ _ _ _ _ _ _ _ _ h) 51 RX0 (lw_V q169 q170 q171 q23 q172) (na := 0) (by decide +kernel) rfl (by decide) 0 rfl rfl rfl hw hl.1 rfl (Nat.le_of_ble_eq_true rfl) ⟨by decide, by decide⟩ dL_law_276 (fun r0 u0 H locs h hw => ?_)
        have hw : gSt D (fun q : Nat => s.heap.size ≤ q) s (gT a d dep sub lv siz ky va tot u0.1 u0.2 mk mv pk pv ++ gM a' d li le vs nd po dp) H locs := hw
        refine lv_aload_n hx hb dL_law_279 rfl (lv_at hl 2 rfl) ?_
        refine g_callVir (rest := [.int r0]) (C) (c_X1_next l D a' d _ _ _ _ _ _ h) 54 RX1 (lw_V q283 q284 q285 q24 q286) (na := 0) (by decide +kernel) rfl (by decide) 1 rfl rfl rfl hw.comm hl.1 rfl (Nat.le_of_ble_eq_true rfl) ⟨by decide, by decide⟩ dL_law_280 (fun r1 u1 H locs h hw => ?_)
        have hw : gSt D (fun q : Nat => s.heap.size ≤ q) s (gT a d dep sub lv siz ky va tot u0.1 u0.2 mk mv pk pv ++ gM a' d li le vs nd po dp) H locs := hw.comm
        refine lv_icmp_eq (tgt := 353) hx hb dL_law_283 (by decide) (fun _ => ?_) (fun c2 => absurd h.1 c2)
        exact hn _ _ _ _ _ _ _ _ _ _ _ _ _ _ _ _ _ _ _ _ _ _ _ rfl hk h.2 hw hl
      · refine lv_tableIn (off := 256) (tgt := 288) hx hb dL_law_32 (by decide) (by decide) (by decide) (by decide) ?_
        have h := hIs.2.2.2.2.2.2.2.2.2.2.1
        unfold K_previous at h
        refine lv_aload_n hx hb dL_law_288 rfl (lv_at hl 1 rfl) ?_
        refine g_callVir (rest := []) (C) (c_X0_previous l D a d _ _ _ _ _ _ _ _ _ _ _ _ _ h) 55 RX0 (lw_V q176 q177 q178 q23 q179) (na := 0) (by decide +kernel) rfl (by decide) 0 rfl rfl rfl hw hl.1 rfl (Nat.le_of_ble_eq_true rfl) ⟨by decide, by decide⟩ dL_law_289 (fun r0 u0 H locs h hw => ?_)
        have hw : gSt D (fun q : Nat => s.heap.size ≤ q) s (gT a d dep sub lv siz ky va tot u0.1 u0.2 mk mv pk pv ++ gM a' d li le vs nd po dp) H locs := hw
        refine lv_aload_n hx hb dL_law_292 rfl (lv_at hl 2 rfl) ?_
        refine g_callVir (rest := [.int r0]) (C) (c_X1_previous l D a' d _ _ _ _ _ _ h) 58 RX1 (lw_V q291 q292 q293 q24 q294) (na := 0) (by decide +kernel) rfl (by decide) 1 rfl rfl rfl hw.comm hl.1 rfl (Nat.le_of_ble_eq_true rfl) ⟨by decide, by decide⟩ dL_law_293 (fun r1 u1 H locs h hw => ?_)
        have hw : gSt D (fun q : Nat => s.heap.size ≤ q) s (gT a d dep sub lv siz ky va tot u0.1 u0.2 mk mv pk pv ++ gM a' d li le vs nd po dp) H locs := hw.comm
        refine lv_icmp_eq (tgt := 353) hx hb dL_law_296 (by decide) (fun _ => ?_) (fun c2 => absurd h.1 c2)
        exact hn _ _ _ _ _ _ _ _ _ _ _ _ _ _ _ _ _ _ _ _ _ _ _ rfl hk h.2 hw hl
      · refine lv_tableIn (off := 269) (tgt := 301) hx hb dL_law_32 (by decide) (by decide) (by decide) (by decide) ?_
        have h := hIs.2.2.2.2.2.2.2.2.2.2.2.1
        unfold K_first at h
        refine lv_aload_n hx hb dL_law_301 rfl (lv_at hl 1 rfl) ?_
        refine g_callVir (rest := []) (C) (c_X0_first l D a d _ _ _ _ _ _ _ _ _ _ _ _ _ h) 59 RX0 (lw_V q184 q185 q186 q23 q187) (na := 0) (by decide +kernel) rfl (by decide) 0 rfl rfl rfl hw hl.1 rfl (Nat.le_of_ble_eq_true rfl) ⟨by decide, by decide⟩ dL_law_302 (fun r0 u0 H locs h hw => ?_)
        have hw : gSt D (fun q : Nat => s.heap.size ≤ q) s (gT a d dep sub lv siz ky va tot u0.1 u0.2 mk mv pk pv ++ gM a' d li le vs nd po dp) H locs := hw
        refine lv_aload_n hx hb dL_law_305 rfl (lv_at hl 2 rfl) ?_
        refine g_callVir (rest := [.int r0]) (C) (c_X1_first l D a' d _ _ _ _ _ _ h) 62 RX1 (lw_V q295 q296 q297 q24 q298) (na := 0) (by decide +kernel) rfl (by decide) 1 rfl rfl rfl hw.comm hl.1 rfl (Nat.le_of_ble_eq_true rfl) ⟨by decide, by decide⟩ dL_law_306 (fun r1 u1 H locs h hw => ?_)
        have hw : gSt D (fun q : Nat => s.heap.size ≤ q) s (gT a d dep sub lv siz ky va tot u0.1 u0.2 mk mv pk pv ++ gM a' d li le vs nd po dp) H locs := hw.comm
        refine lv_icmp_eq (tgt := 353) hx hb dL_law_309 (by decide) (fun _ => ?_) (fun c2 => absurd h.1 c2)
        exact hn _ _ _ _ _ _ _ _ _ _ _ _ _ _ _ _ _ _ _ _ _ _ _ rfl hk h.2 hw hl
      · refine lv_tableIn (off := 282) (tgt := 314) hx hb dL_law_32 (by decide) (by decide) (by decide) (by decide) ?_
        have h := hIs.2.2.2.2.2.2.2.2.2.2.2.2.1
        unfold K_query at h
        refine lv_aload_n hx hb dL_law_314 rfl (lv_at hl 1 rfl) ?_
        refine g_callVir (rest := []) (C) (c_X0_query l D a d _ _ _ _ _ _ _ _ _ _ _ _ _ h) 63 RX0 (lw_V q188 q189 q190 q23 q191) (na := 0) (by decide +kernel) rfl (by decide) 0 rfl rfl rfl hw hl.1 rfl (Nat.le_of_ble_eq_true rfl) ⟨by decide, by decide⟩ dL_law_315 (fun r0 u0 H locs h hw => ?_)
        have hw : gSt D (fun q : Nat => s.heap.size ≤ q) s (gT a d dep sub lv siz ky va tot u0.1 u0.2 mk mv pk pv ++ gM a' d li le vs nd po dp) H locs := hw
        refine lv_aload_n hx hb dL_law_318 rfl (lv_at hl 2 rfl) ?_
        refine g_callVir (rest := [.int r0]) (C) (c_X1_query l D a' d _ _ _ _ _ _ h) 66 RX1 (lw_V q299 q300 q301 q24 q302) (na := 0) (by decide +kernel) rfl (by decide) 1 rfl rfl rfl hw.comm hl.1 rfl (Nat.le_of_ble_eq_true rfl) ⟨by decide, by decide⟩ dL_law_319 (fun r1 u1 H locs h hw => ?_)
        have hw : gSt D (fun q : Nat => s.heap.size ≤ q) s (gT a d dep sub lv siz ky va tot u0.1 u0.2 mk mv pk pv ++ gM a' d li le vs nd po dp) H locs := hw.comm
        refine lv_icmp_eq (tgt := 353) hx hb dL_law_322 (by decide) (fun _ => ?_) (fun c2 => absurd h.1 c2)
        exact hn _ _ _ _ _ _ _ _ _ _ _ _ _ _ _ _ _ _ _ _ _ _ _ rfl hk h.2 hw hl
      · refine lv_tableIn (off := 295) (tgt := 327) hx hb dL_law_32 (by decide) (by decide) (by decide) (by decide) ?_
        have h := hIs.2.2.2.2.2.2.2.2.2.2.2.2.2.1
        unfold K_before at h
        refine lv_aload_n hx hb dL_law_327 rfl (lv_at hl 1 rfl) ?_
        refine g_callVir (rest := []) (C) (c_X0_before l D a d _ _ _ _ _ _ _ _ _ _ _ _ _ h) 67 RX0 (lw_V q192 q193 q194 q23 q195) (na := 0) (by decide +kernel) rfl (by decide) 0 rfl rfl rfl hw hl.1 rfl (Nat.le_of_ble_eq_true rfl) ⟨by decide, by decide⟩ dL_law_328 (fun r0 u0 H locs h hw => ?_)
        have hw : gSt D (fun q : Nat => s.heap.size ≤ q) s (gT a d dep sub lv siz ky va tot u0.1 u0.2 mk mv pk pv ++ gM a' d li le vs nd po dp) H locs := hw
        refine lv_aload_n hx hb dL_law_331 rfl (lv_at hl 2 rfl) ?_
        refine g_callVir (rest := [.int r0]) (C) (c_X1_before l D a' d _ _ _ _ _ _ h) 70 RX1 (lw_V q311 q312 q313 q24 q314) (na := 0) (by decide +kernel) rfl (by decide) 1 rfl rfl rfl hw.comm hl.1 rfl (Nat.le_of_ble_eq_true rfl) ⟨by decide, by decide⟩ dL_law_332 (fun r1 u1 H locs h hw => ?_)
        have hw : gSt D (fun q : Nat => s.heap.size ≤ q) s (gT a d dep sub lv siz ky va tot u0.1 u0.2 mk mv pk pv ++ gM a' d li le vs nd po dp) H locs := hw.comm
        refine lv_icmp_eq (tgt := 353) hx hb dL_law_335 (by decide) (fun _ => ?_) (fun c2 => absurd h.1 c2)
        exact hn _ _ _ _ _ _ _ _ _ _ _ _ _ _ _ _ _ _ _ _ _ _ _ rfl hk h.2 hw hl
      · refine lv_tableIn (off := 308) (tgt := 340) hx hb dL_law_32 (by decide) (by decide) (by decide) (by decide) ?_
        have h := hIs.2.2.2.2.2.2.2.2.2.2.2.2.2.2
        unfold K_count at h
        refine lv_aload_n hx hb dL_law_340 rfl (lv_at hl 1 rfl) ?_
        refine g_callVir (rest := []) (C) (c_X0_count l D a d _ _ _ _ _ _ _ _ _ _ _ _ _ h) 71 RX0 (lw_V q196 q197 q198 q23 q199) (na := 0) (by decide +kernel) rfl (by decide) 0 rfl rfl rfl hw hl.1 rfl (Nat.le_of_ble_eq_true rfl) ⟨by decide, by decide⟩ dL_law_341 (fun r0 u0 H locs h hw => ?_)
        have hw : gSt D (fun q : Nat => s.heap.size ≤ q) s (gT a d dep sub lv siz ky va tot lf sl mk mv pk pv ++ gM a' d li le vs nd po dp) H locs := hw
        refine lv_aload_n hx hb dL_law_344 rfl (lv_at hl 2 rfl) ?_
        refine g_callVir (rest := [.int r0]) (C) (c_X1_count l D a' d _ _ _ _ _ _ h) 74 RX1 (lw_V q315 q316 q317 q24 q318) (na := 0) (by decide +kernel) rfl (by decide) 1 rfl rfl rfl hw.comm hl.1 rfl (Nat.le_of_ble_eq_true rfl) ⟨by decide, by decide⟩ dL_law_345 (fun r1 u1 H locs h hw => ?_)
        have hw : gSt D (fun q : Nat => s.heap.size ≤ q) s (gT a d dep sub lv siz ky va tot lf sl mk mv pk pv ++ gM a' d li le vs nd po dp) H locs := hw.comm
        refine lv_icmp_eq (tgt := 353) hx hb dL_law_348 (by decide) (fun _ => ?_) (fun c2 => absurd h.1 c2)
        exact hn _ _ _ _ _ _ _ _ _ _ _ _ _ _ _ _ _ _ _ _ _ _ _ rfl hk h.2 hw hl
      · refine lv_tableOut (tgt := 353) hx hb dL_law_32 (by decide) (by decide) ?_
        exact hn _ _ _ _ _ _ _ _ _ _ _ _ _ _ _ _ _ _ _ _ _ _ _ rfl hk hI0 hw hl
set_option maxHeartbeats 4000000 in
set_option maxRecDepth 100000 in
theorem whole_of {p : Program} {e : Env} {s : State} {m : MethodId} {below : List Frame} {meth : Method} {c : Code} (l : Launch) {b L : Nat} {xs : Nat → Int32} {I : Int32 → (Nat → Int32) → Int32 → (Nat → Int32) → (Nat → Int32) → (Nat → Int32) → Int32 → Int32 → Int32 → (Nat → Int32) → (Nat → Int32) → (Nat → Int32) → (Nat → Int32) → (Nat → Int32) → (Nat → Int32) → (Nat → Int32) → Int32 → (Nat → Int32) → Int32 → Prop} (hI : LawI I) (hL : L ≤ 128) (C0 : lw_At p s m meth c b L xs) : W p l e room_1 s m #[Value.ref b] below meth c s.heap [] 0 0 (lw_Z below #[Value.ref b] s) (entryFrame m ([Value.ref b] : List Value).toArray 4) := by
  obtain ⟨hx, hb, hr, hml, hown, htt, hX, hbl, hlocks, hgv⟩ := id C0
  have hts : ∀ w ∈ lw_all, w.before #[Value.ref b] s = true := fun w h => htt w (lw_all_tbl h)
  have hA : ∀ q : Nat, s.heap.size ≤ q → (fun q : Nat => s.heap.size ≤ q) q := fun _ h => h
  obtain ⟨c0, iS0, hKn0⟩ := u_known (C := RX0) (T := TX0) (N := 13) (n := 13) hts in_X0 (hts _ q26)
  obtain ⟨c1, iS1, hKn1⟩ := u_known (C := RX1) (T := TX1) (N := 6) (n := 6) hts in_X1 (hts _ q201)
  obtain ⟨dC, dI, hKc⟩ : ∃ (dC : Nat → ClassId) (dI : Nat → Nat → Nat), ∀ (k : Nat) (q : vw_C), vwCl[k]? = some q → u_Kn s q.1 q.2.1 q.2.2 (dC k) (dI k) := by
    refine ⟨fun k => if k = 0 then c0 else c1, fun k => if k = 0 then iS0 else iS1, ?_⟩
    intro k q hq
    match k, hq with
    | 0, hq => cases hq; exact hKn0
    | 1, hq => cases hq; exact hKn1
    | k + 2, hq => simp [vwCl] at hq
  obtain ⟨d, kA, comp, hd1, hd2, hd3⟩ := Cond.arrayClass_spec (hts _ q73)
  have hK : va_K (dC, dI) vwCl [(d, .int)] s := by
    refine ⟨hKc, fun k q h => ?_⟩
    match k, h with
    | 0, h => cases h; exact ⟨fun n z => ⟨fun k h => (by cases h), kA, hd2, comp, hd3⟩, hd1⟩
    | k + 1, h => simp at h
  generalize hDe : (dC, dI) = D at hK
  have hw : gSt D (fun q : Nat => s.heap.size ≤ q) s [] s.heap [] := ⟨fun k q h => by simp at h, ⟨fun i j p q h => by simp at h, fun k q h => by simp at h⟩, va_S.rf⟩
  have C : gCx R_law code 4 ret D d (fun q : Nat => s.heap.size ≤ q) p s m #[Value.ref b] meth c := ⟨⟨hx, hb, hml, hown, hts⟩, hK, hr, hlocks, hA⟩
  have hl := lv_entry ([.ref b]) (n := 4) (Nat.le_of_ble_eq_true rfl)
  rw [lg_entry_eq]
  generalize (lg_sl ([.ref b]) ++ List.replicate (4 - (lg_sl ([.ref b])).length) Slot.unset).toArray = ls at hl ⊢
  have hl : lv_has ls 4 [(0, .ref b)] := hl
  refine va_new (ci := 0) (fs := [.int 0, .null, .int 0, .null, .null, .null, .int 0, .int 0, .int 0, .null, .null, .null, .null]) (C := RX0) (T := TX0) (N := 13) hx hb hts in_X0 tyX0 tyX0_ok hown (hts _ q25) (hts _ q26) (hts _ q23) hK hw.1 hw.2.1 hw.2.2 hA rfl (fun j hj => by rcases (show j = 0 ∨ j = 1 ∨ j = 2 ∨ j = 3 ∨ j = 4 ∨ j = 5 ∨ j = 6 ∨ j = 7 ∨ j = 8 ∨ j = 9 ∨ j = 10 ∨ j = 11 ∨ j = 12 by omega) with rfl | rfl | rfl | rfl | rfl | rfl | rfl | rfl | rfl | rfl | rfl | rfl | rfl <;> rfl) (by decide) (by decide) dL_law_0 (fun qx H hP hD hS => ?_)
  refine W.widen (k := 1) (n := 13) (Nat.le_refl _) (Nat.le_refl _) ?_
  have hw : gSt D (fun q : Nat => s.heap.size ≤ q) s ([] ++ [(qx, .inr (0, [.int 0, .null, .int 0, .null, .null, .null, .int 0, .int 0, .int 0, .null, .null, .null, .null]))]) H _ := ⟨hP, hD, hS⟩
  have hw := hw.comm
  refine lv_dup hx hb dL_law_3 rfl ?_
  have hF := hw.left.free C.2.2.2.2
  refine va_callv (va_runI (As := []) (rest := [.ref qx]) C.1 (c_X0_init l D d qx H.size) (cwI 0 hts (lw_meth q29) rfl rfl rfl (hts _ q23) (hts _ q27) (hts _ q28) rfl (by decide +kernel) ⟨by decide, by decide⟩) ⟨gPre_blind, fun U hU hW => ⟨rfl, by rw [hU], by rw [hU]; exact hw.left.1, va_K.moved hW.alike C.2.1, hw.left.2.1.weaken (fun _ _ _ _ => trivial)⟩⟩ rfl rfl hl.1 rfl (lv_room (Nat.le_of_ble_eq_true rfl)) dL_law_4 ⟨by decide, by decide⟩) hw.2.2 (fun q _ h => hF q h) hF (fun a t H1 locs1 ht hvm hp hB hz hk hS => ?_)
  obtain ⟨hP1, hK1, hD1⟩ := hB
  rw [ht] at hP1
  have hw2 := hw.join hF hP1 hD1 hk hS
  have hp : a 0 = qx := hp
  subst hp
  have hw := hw2
  clear hw2
  refine W.widen (k := 9) (n := 800) (Nat.le_refl _) (Nat.le_refl _) ?_
  refine lv_astore_n (lv' := [(1, .ref (a 0)), (0, .ref b)]) hx hb dL_law_7 rfl hl (by decide) rfl (fun ls hl => ?_)
  have hw : gSt D (fun q : Nat => s.heap.size ≤ q) s (gT a d 0 (fun _ => 0) 1 (fun _ => 0) (fun _ => 0) (fun _ => 0) 0 0 0 (fun _ => 0) (fun _ => 0) (fun _ => 0) (fun _ => 0)) H1 locs1 := by rw [List.append_nil] at hw; exact hw
  refine va_new (ci := 1) (fs := [.null, .null, .null, .int 0, .null, .int 0]) (C := RX1) (T := TX1) (N := 6) hx hb hts in_X1 tyX1 tyX1_ok hown (hts _ q200) (hts _ q201) (hts _ q24) hK hw.1 hw.2.1 hw.2.2 hA rfl (fun j hj => by rcases (show j = 0 ∨ j = 1 ∨ j = 2 ∨ j = 3 ∨ j = 4 ∨ j = 5 by omega) with rfl | rfl | rfl | rfl | rfl | rfl <;> rfl) (by decide) (by decide) dL_law_8 (fun qm H hP hD hS => ?_)
  refine W.widen (k := 10) (n := 806) (Nat.le_refl _) (Nat.le_refl _) ?_
  have hw : gSt D (fun q : Nat => s.heap.size ≤ q) s ((gT a d 0 (fun _ => 0) 1 (fun _ => 0) (fun _ => 0) (fun _ => 0) 0 0 0 (fun _ => 0) (fun _ => 0) (fun _ => 0) (fun _ => 0)) ++ [(qm, .inr (1, [.null, .null, .null, .int 0, .null, .int 0]))]) H _ := ⟨hP, hD, hS⟩
  have hw := hw.comm
  refine lv_dup hx hb dL_law_11 rfl ?_
  have hF := hw.left.free C.2.2.2.2
  refine va_callv (va_runI (As := []) (rest := [.ref qm]) C.1 (c_X1_init l D d qm H.size) (cwI 0 hts (lw_meth q204) rfl rfl rfl (hts _ q24) (hts _ q202) (hts _ q203) rfl (by decide +kernel) ⟨by decide, by decide⟩) ⟨gPre_blind, fun U hU hW => ⟨rfl, by rw [hU], by rw [hU]; exact hw.left.1, va_K.moved hW.alike C.2.1, hw.left.2.1.weaken (fun _ _ _ _ => trivial)⟩⟩ rfl rfl hl.1 rfl (lv_room (Nat.le_of_ble_eq_true rfl)) dL_law_12 ⟨by decide, by decide⟩) hw.2.2 (fun q _ h => hF q h) hF (fun a' t H1 locs1 ht hvm hp hB hz hk hS => ?_)
  obtain ⟨hP1, hK1, hD1⟩ := hB
  rw [ht] at hP1
  have hw2 := hw.join hF hP1 hD1 hk hS
  have hp : a' 0 = qm := hp
  subst hp
  have hw := hw2
  clear hw2
  refine W.widen (k := 14) (n := 1109) (Nat.le_refl _) (Nat.le_refl _) ?_
  refine lv_astore_n (lv' := [(2, .ref (a' 0)), (1, .ref (a 0)), (0, .ref b)]) hx hb dL_law_15 rfl hl (by decide) rfl (fun ls hl => ?_)
  have hw := hw.comm
  refine lv_iconst (v := 0) hx hb dL_law_16 (by decide) ?_
  refine lv_istore_n (lv' := [(3, .int 0), (2, .ref (a' 0)), (1, .ref (a 0)), (0, .ref b)]) hx hb dL_law_17 rfl hl (by decide) rfl (fun ls hl => ?_)
  exact law_loop hI hL C hX hbl a a' (L + 2) 0 0 _ _ _ _ _ _ _ _ _ _ _ _ _ _ _ _ _ _ _ _ _ _ (by omega) (by omega) nI_0.symm hI.1 hw (lv_sub hl [3, 2, 1, 0] rfl)
end
section
/-! NUMBERS: literals as nI, the normal form of index arithmetic -/
theorem k0 : (0 : Int32) = nI 0 := rfl
theorem k1 : (1 : Int32) = nI 1 := rfl
theorem k2 : (2 : Int32) = nI 2 := rfl
theorem k3 : (3 : Int32) = nI 3 := rfl
theorem k4 : (4 : Int32) = nI 4 := rfl
theorem k5 : (5 : Int32) = nI 5 := rfl
theorem k6 : (6 : Int32) = nI 6 := rfl
theorem k8 : (8 : Int32) = nI 8 := rfl
theorem k10 : (10 : Int32) = nI 10 := rfl
theorem k32 : (32 : Int32) = nI 32 := rfl
theorem k51 : (51 : Int32) = nI 51 := rfl
theorem k60 : (60 : Int32) = nI 60 := rfl
theorem kEnd : (2097152 : Int32) = nI 2097152 := rfl
theorem vin {n N : Nat} (h : n < N) (hN : N < 2 ^ 31) : vp_in (nI n) N := vp_in_nI h hN
theorem m1 {n : Nat} (h : 0 < n) : nI n + (-1) = nI (n - 1) := sb_m1 h
theorem upd_s {f : Nat → Int32} {k : Nat} {x : Int32} : upd f k x k = x := pk_us
theorem upd_n {f : Nat → Int32} {k j : Nat} {x : Int32} (h : j ≠ k) : upd f k x j = f j := pk_un h
/-- leaf f copied to leaf t -/
def cpL (ky : Nat → Int32) (f t : Nat) : Nat → Int32 := fun q => if t * 8 ≤ q ∧ q < t * 8 + 8 then ky (f * 8 + (q - t * 8)) else ky q
theorem copyLeaf_ok {siz ky va : Nat → Int32} {f t : Nat} (hf : f < 32) (ht : t < 32) (hne : f ≠ t) {K : (Nat → Int32) → (Nat → Int32) → (Nat → Int32) → Prop} (hK : K (upd siz t (siz f)) (cpL ky f t) (cpL va f t)) : X0_copyLeaf_w siz ky va (nI f) (nI t) K := by
  unfold X0_copyLeaf_w
  refine ⟨vin hf (by omega), vin ht (by omega), fun x ky' va' => ∃ i, x = nI i ∧ i ≤ 8 ∧ ky' = (fun q => if t * 8 ≤ q ∧ q < t * 8 + i then ky (f * 8 + (q - t * 8)) else ky q) ∧ va' = (fun q => if t * 8 ≤ q ∧ q < t * 8 + i then va (f * 8 + (q - t * 8)) else va q), fun x _ _ => 8 - x.toNatClampNeg, ⟨0, rfl, by omega, ?_, ?_⟩, ?_⟩
  · funext q; rw [if_neg (by omega)]
  · funext q; rw [if_neg (by omega)]
  rintro x ky' va' ⟨i, rfl, hi, rfl, rfl⟩
  simp (disch := omega) only [k8, k1, pk_mul, nI_add, nI_clamp, nI_leI]
  refine ⟨fun h => ?_, fun h => ⟨vin (by omega) (by omega), vin (by omega) (by omega), vin (by omega) (by omega), vin (by omega) (by omega), ⟨i + 1, rfl, by omega, ?_, ?_⟩, by omega⟩⟩
  · obtain rfl : i = 8 := by omega
    exact hK
  all_goals
    funext q
    simp only [upd]
    by_cases h1 : q = t * 8 + i
    · rw [if_pos h1, if_neg (by omega), if_pos (by omega)]
      congr 1
      omega
    · rw [if_neg h1]
      by_cases h2 : t * 8 ≤ q ∧ q < t * 8 + i
      · rw [if_pos h2, if_pos (by omega)]
      · rw [if_neg h2, if_neg (by omega)]
end
section
/-! THE TREE's LEAVES as a list of lists of (key, value) -/
def TR (LL : List (List (Nat × Int32))) (lv : Int32) (siz ky va : Nat → Int32) : Prop :=
  lv = nI LL.length ∧ ∀ (l : Nat) (lf : List (Nat × Int32)), LL[l]? = some lf → siz l = nI lf.length ∧ ∀ (i : Nat) (e : Nat × Int32), lf[i]? = some e → ky (l * 8 + i) = nI e.1 ∧ va (l * 8 + i) = e.2
def WF (LL : List (List (Nat × Int32))) : Prop :=
  1 ≤ LL.length ∧ LL.length ≤ 32 ∧ (∀ lf ∈ LL, lf.length ≤ 8) ∧ (LL.length = 1 ∨ ∀ lf ∈ LL, lf ≠ []) ∧ LL.flatten.Pairwise (fun a b => a.1 < b.1) ∧ ∀ e ∈ LL.flatten, e.1 < 2097152
theorem zip_at {α : Type} {l : List α} {p : Nat} {x : α} (h : l[p]? = some x) : l = l.take p ++ x :: l.drop (p + 1) := by
  obtain ⟨hp, rfl⟩ := List.getElem?_eq_some_iff.mp h
  rw [← List.drop_eq_getElem_cons hp, List.take_append_drop]
theorem mem_take_ix {α : Type} {l : List α} {p : Nat} {x : α} (h : x ∈ l.take p) : ∃ j, j < p ∧ l[j]? = some x := by
  obtain ⟨j, hj, rfl⟩ := List.mem_take_iff_getElem.mp h
  exact ⟨j, by omega, List.getElem?_eq_getElem (by omega)⟩
theorem mem_drop_ix {α : Type} {l : List α} {p : Nat} {x : α} (h : x ∈ l.drop p) : ∃ j, p ≤ j ∧ l[j]? = some x := by
  obtain ⟨j, hj, rfl⟩ := List.mem_drop_iff_getElem.mp h
  exact ⟨p + j, by omega, List.getElem?_eq_getElem (by omega)⟩
theorem pw_ix {α : Type} {R : α → α → Prop} {l : List α} (h : l.Pairwise R) {i j : Nat} {x y : α} (hi : l[i]? = some x) (hj : l[j]? = some y) (hij : i < j) : R x y := by
  obtain ⟨h1, rfl⟩ := List.getElem?_eq_some_iff.mp hi
  obtain ⟨h2, rfl⟩ := List.getElem?_eq_some_iff.mp hj
  exact List.pairwise_iff_getElem.mp h i j h1 h2 hij
theorem ix_lt {α : Type} {l : List α} {i : Nat} {x : α} (h : l[i]? = some x) : i < l.length := (List.getElem?_eq_some_iff.mp h).1
theorem ix_mem {α : Type} {l : List α} {i : Nat} {x : α} (h : l[i]? = some x) : x ∈ l := List.mem_of_getElem? h
theorem ix_get {α : Type} {l : List α} {i : Nat} (h : i < l.length) : ∃ x, l[i]? = some x := ⟨l[i], List.getElem?_eq_getElem h⟩
/-- what a search finds: the leaves and keys ahead of the place are below k, those behind it aren't -/
def Zip (LL : List (List (Nat × Int32))) (k : Nat) (X : List (List (Nat × Int32))) (u w : List (Nat × Int32)) (Y : List (List (Nat × Int32))) : Prop :=
  LL = X ++ (u ++ w) :: Y ∧ (∀ e ∈ X.flatten ++ u, e.1 < k) ∧ (∀ e ∈ w ++ Y.flatten, k ≤ e.1) ∧ (w = [] → Y = [])
set_option maxHeartbeats 2000000 in
theorem seek_ok {LL : List (List (Nat × Int32))} {lv : Int32} {siz ky va : Nat → Int32} (hT : TR LL lv siz ky va) (hW : WF LL) {k : Nat} (hk : k < 1073741824) {K : Int32 → Int32 → Prop}
    (hK : ∀ X u w Y, Zip LL k X u w Y → K (nI X.length) (nI u.length)) : X0_seek_w lv siz ky (nI k) K := by
  obtain ⟨rfl, hTR⟩ := hT
  obtain ⟨hn1, hn2, h8, hne, hs, hbd⟩ := hW
  obtain ⟨hs1, hs2⟩ := List.pairwise_flatten.mp hs
  have hbd' : ∀ {i : Nat} {li : List (Nat × Int32)}, LL[i]? = some li → ∀ e ∈ li, e.1 < 2097152 := fun h e he => hbd e (List.mem_flatten.mpr ⟨_, ix_mem h, he⟩)
  have hbt : ∀ {i j : Nat} {li lj : List (Nat × Int32)}, LL[i]? = some li → LL[j]? = some lj → i < j → ∀ x ∈ li, ∀ y ∈ lj, x.1 < y.1 := fun h1 h2 h3 => pw_ix hs2 h1 h2 h3
  have hnE : ∀ {i : Nat} {li : List (Nat × Int32)}, LL[i]? = some li → 2 ≤ LL.length → li ≠ [] := by
    intro i li h1 h2
    rcases hne with h | h
    · omega
    · exact h li (ix_mem h1)
  unfold X0_seek_w
  refine ⟨fun x2 x3 => ∃ lo hi, x2 = nI lo ∧ x3 = nI hi ∧ lo ≤ hi ∧ hi < LL.length ∧ (lo ≠ 0 → ∀ lf, LL[lo]? = some lf → ∃ e ∈ lf, e.1 ≤ k) ∧ (∀ j lf, hi < j → LL[j]? = some lf → ∀ e ∈ lf, k < e.1), fun x2 x3 => x3.toNatClampNeg - x2.toNatClampNeg, ⟨0, LL.length - 1, rfl, pk_sub hn1, by omega, by omega, fun h => absurd rfl h, fun j lf h1 h2 => absurd (ix_lt h2) (by omega)⟩, ?_⟩
  rintro x2 x3 ⟨lo, hi, rfl, rfl, hlh, hhn, h1, h2⟩
  refine ⟨fun h => ?_, fun h => ?_⟩
  · rw [nI_leI (by omega) (by omega)] at h
    obtain rfl : lo = hi := by omega
    obtain ⟨lf, hlf⟩ := ix_get hhn
    have hl8 : lf.length ≤ 8 := h8 lf (ix_mem hlf)
    have hsz := (hTR lo lf hlf).1
    refine ⟨fun sl => ∃ i, sl = nI i ∧ i ≤ lf.length ∧ (∀ e ∈ lf.take i, e.1 < k) ∧ (i = lf.length ∨ ∀ e ∈ lf.drop i, k ≤ e.1), ?_, fun sl => ∃ i, sl = nI i ∧ i ≤ lf.length ∧ (∀ e ∈ lf.take i, e.1 < k), fun sl => 8 - sl.toNatClampNeg, ⟨0, rfl, by omega, by simp⟩, ?_⟩
    · rintro sl ⟨i, rfl, hil, ht, hd⟩
      simp (disch := omega) only [k1, nI_add, nI_clamp, nI_leI, hsz, nI_eq]
      have hX : ∀ e ∈ (LL.take lo).flatten, e.1 < k := by
        intro e he
        obtain ⟨lj, hlj, he⟩ := List.mem_flatten.mp he
        obtain ⟨j, hj, hlj⟩ := mem_take_ix hlj
        obtain ⟨e0, he0, hk0⟩ := h1 (by omega) lf hlf
        have := hbt hlj hlf hj e he e0 he0
        omega
      have hY : ∀ p, lo < p → ∀ e ∈ (LL.drop p).flatten, k ≤ e.1 := by
        intro p hp e he
        obtain ⟨lj, hlj, he⟩ := List.mem_flatten.mp he
        obtain ⟨j, hj, hlj⟩ := mem_drop_ix hlj
        exact Nat.le_of_lt (h2 j lj (by omega) hlj e he)
      have hhere : (i = lf.length → LL.length ≤ lo + 1) → K (nI lo) (nI i) := by
        intro hz
        have := hK (LL.take lo) (lf.take i) (lf.drop i) (LL.drop (lo + 1)) ⟨by rw [List.take_append_drop]; exact zip_at hlf, ?_, ?_, ?_⟩
        · rw [List.length_take, List.length_take, Nat.min_eq_left (by omega), Nat.min_eq_left hil] at this
          exact this
        · intro e he
          rcases List.mem_append.mp he with he | he
          · exact hX e he
          · exact ht e he
        · intro e he
          rcases List.mem_append.mp he with he | he
          · rcases hd with hd | hd
            · rw [hd, List.drop_length] at he; cases he
            · exact hd e he
          · exact hY _ (by omega) e he
        · intro hw
          have : lf.length ≤ i := List.drop_eq_nil_iff.mp hw
          exact List.drop_eq_nil_iff.mpr (hz (by omega))
      refine ⟨vin (by omega) (by omega), fun hi => hhere (fun hz => absurd hz hi), fun hi => ⟨fun hz => hhere (fun _ => hz), fun hz => ?_⟩⟩
      obtain ⟨lf2, hlf2⟩ := ix_get (l := LL) (i := lo + 1) (by omega)
      have := hK (LL.take (lo + 1)) [] lf2 (LL.drop (lo + 2)) ⟨zip_at hlf2, ?_, ?_, ?_⟩
      · rw [List.length_take, Nat.min_eq_left (by omega)] at this
        exact this
      · intro e he
        rw [List.append_nil] at he
        obtain ⟨lj, hlj, he⟩ := List.mem_flatten.mp he
        obtain ⟨j, hj, hlj2⟩ := mem_take_ix hlj
        by_cases hjl : j = lo
        · subst hjl
          rw [hlf] at hlj2
          cases hlj2
          rw [hi, List.take_length] at ht
          exact ht e he
        · exact hX e (List.mem_flatten.mpr ⟨lj, List.mem_take_iff_getElem.mpr ⟨j, by have := ix_lt hlj2; omega, (List.getElem?_eq_some_iff.mp hlj2).2⟩, he⟩)
      · intro e he
        rcases List.mem_append.mp he with he | he
        · exact Nat.le_of_lt (h2 (lo + 1) lf2 (by omega) hlf2 e he)
        · exact hY _ (by omega) e he
      · intro hw
        exact absurd hw (hnE hlf2 (by omega))
    · rintro sl ⟨i, rfl, hil, ht⟩
      simp (disch := omega) only [k1, k8, pk_mul, nI_add, nI_clamp, nI_leI, hsz]
      refine ⟨vin (by omega) (by omega), fun h => ⟨i, rfl, hil, ht, Or.inl (by omega)⟩, fun h => ?_⟩
      obtain ⟨e, he⟩ := ix_get (l := lf) (i := i) (by omega)
      have hke := ((hTR lo lf hlf).2 i e he).1
      have hb := hbd' hlf e (ix_mem he)
      simp (disch := omega) only [hke, nI_leI]
      have hdrop : lf.drop i = e :: lf.drop (i + 1) := by
        obtain ⟨hp, rfl⟩ := List.getElem?_eq_some_iff.mp he
        exact List.drop_eq_getElem_cons hp
      refine ⟨vin (by omega) (by omega), fun h3 => ⟨i, rfl, hil, ht, Or.inr fun x hx => ?_⟩, fun h3 => ⟨⟨i + 1, rfl, by omega, fun x hx => ?_⟩, by omega⟩⟩
      · obtain ⟨j, hj, hx2⟩ := mem_drop_ix hx
        by_cases hji : j = i
        · subst hji; rw [he] at hx2; cases hx2; exact h3
        · have := pw_ix (hs1 lf (ix_mem hlf)) he hx2 (by omega)
          omega
      · obtain ⟨j, hj, hx2⟩ := mem_take_ix hx
        by_cases hji : j = i
        · subst hji; rw [he] at hx2; cases hx2; omega
        · exact ht x (List.mem_take_iff_getElem.mpr ⟨j, by have := ix_lt hx2; omega, (List.getElem?_eq_some_iff.mp hx2).2⟩)
  · rw [nI_leI (by omega) (by omega)] at h
    simp (disch := omega) only [k1, k2, k8, pk_mul, nI_add, nI_clamp, pk_div, pk_sub]
    obtain ⟨lf, hlf⟩ := ix_get (l := LL) (i := (lo + hi + 1) / 2) (by omega)
    obtain ⟨e, t, rfl⟩ := List.exists_cons_of_ne_nil (hnE hlf (by omega))
    have hke := ((hTR _ _ hlf).2 0 e rfl).1
    rw [Nat.add_zero] at hke
    have hb := hbd' hlf e List.mem_cons_self
    simp (disch := omega) only [hke, nI_ltI]
    refine ⟨vin (by omega) (by omega), fun h3 => ⟨⟨lo, _, rfl, rfl, by omega, by omega, h1, fun j lj hj hlj x hx => ?_⟩, by omega⟩, fun h3 => ⟨⟨_, hi, rfl, rfl, by omega, by omega, fun _ lf' hlf' => ⟨e, ?_, by omega⟩, h2⟩, by omega⟩⟩
    · by_cases hjm : j = (lo + hi + 1) / 2
      · subst hjm
        rw [hlf] at hlj
        cases hlj
        rcases List.mem_cons.mp hx with rfl | hx
        · exact h3
        · have := (List.pairwise_cons.mp (hs1 _ (ix_mem hlf))).1 x hx
          omega
      · have := hbt hlf hlj (by omega) e List.mem_cons_self x hx
        omega
    · rw [hlf] at hlf'
      cases hlf'
      exact List.mem_cons_self
end
section
/-! what a search found; keys out of the pointer's digits -/
theorem nil_or_app {α : Type} (l : List α) : l = [] ∨ ∃ l' a, l = l' ++ [a] := by
  rcases List.eq_nil_or_concat l with h | ⟨l', a, h⟩
  · exact Or.inl h
  · exact Or.inr ⟨l', a, by rw [h, List.concat_eq_append]⟩
theorem zip_get {α : Type} {X Y : List α} {a : α} : (X ++ a :: Y)[X.length]? = some a := by simp
theorem TR.here {LL X Y : List (List (Nat × Int32))} {f : List (Nat × Int32)} {lv : Int32} {siz ky va : Nat → Int32} (hT : TR LL lv siz ky va) (h : LL = X ++ f :: Y) : siz X.length = nI f.length ∧ ∀ (i : Nat) (e : Nat × Int32), f[i]? = some e → ky (X.length * 8 + i) = nI e.1 ∧ va (X.length * 8 + i) = e.2 :=
  hT.2 X.length f (by rw [h]; exact zip_get)
theorem WF.here {LL X Y : List (List (Nat × Int32))} {f : List (Nat × Int32)} (hW : WF LL) (h : LL = X ++ f :: Y) : X.length + 1 + Y.length = LL.length ∧ LL.length ≤ 32 ∧ f.length ≤ 8 ∧ ∀ e ∈ f, e.1 < 2097152 := by
  refine ⟨by rw [h]; simp; omega, hW.2.1, hW.2.2.1 f (by rw [h]; simp), fun e he => hW.2.2.2.2.2 e (by rw [h]; simp [he])⟩
theorem found_ok {LL X Y : List (List (Nat × Int32))} {u w : List (Nat × Int32)} {lv : Int32} {siz ky va : Nat → Int32} (hT : TR LL lv siz ky va) (hW : WF LL) (h : LL = X ++ (u ++ w) :: Y) {K : Int32 → Prop} (h0 : w = [] → K (nI 2097152)) (h1 : ∀ e w', w = e :: w' → K (nI e.1)) : X0_found_w siz ky (nI X.length) (nI u.length) K := by
  obtain ⟨hs, hk⟩ := hT.here h
  obtain ⟨hl, hl32, hl8, -⟩ := hW.here h
  rw [List.length_append] at hs hl8
  unfold X0_found_w
  simp (disch := omega) only [nI_clamp, hs, nI_leI, k8, pk_mul, nI_add, kEnd]
  refine ⟨vin (by omega) (by omega), fun h => h0 (List.length_eq_zero_iff.mp (by omega)), fun h => ?_⟩
  match w, h1 with
  | [], _ => simp at h
  | e :: w', h1 =>
    rw [(hk u.length e zip_get).1]
    exact ⟨vin (by omega) (by omega), h1 e w' rfl⟩
theorem Zip.none {LL X Y : List (List (Nat × Int32))} {u w : List (Nat × Int32)} {k : Nat} (hW : WF LL) (h : Zip LL k X u w Y) (hw : ∀ e w', w = e :: w' → e.1 ≠ k) : ∀ e ∈ LL.flatten, e.1 ≠ k := by
  intro e he hek
  obtain ⟨h1, h2, h3, h4⟩ := h
  have he2 : e ∈ (X.flatten ++ u) ++ (w ++ Y.flatten) := by rw [h1] at he; simpa using he
  rcases List.mem_append.mp he2 with he2 | he2
  · have := h2 e he2; omega
  · match w, hw, h4 with
    | [], _, h4 => rw [h4 rfl] at he2; simp at he2
    | a :: w', hw, _ =>
      have hne := hw a w' rfl
      have ha := h3 a (by simp)
      have hs := hW.2.2.2.2.1
      rw [h1] at hs
      have hs : ((X.flatten ++ u) ++ (a :: (w' ++ Y.flatten))).Pairwise (fun a b => a.1 < b.1) := by simpa using hs
      have hs := (List.pairwise_cons.mp (List.pairwise_append.mp hs).2.1).1
      rcases List.mem_cons.mp he2 with he2 | he2
      · rw [he2] at hek; exact hne hek
      · have := hs e he2; omega
theorem present_ok {LL : List (List (Nat × Int32))} {lv : Int32} {siz ky va : Nat → Int32} (hT : TR LL lv siz ky va) (hW : WF LL) {k : Nat} (hk : k < 2097152) {K : Int32 → Int32 → Int32 → Prop}
    (h1 : ∀ X u v w Y, Zip LL k X u ((k, v) :: w) Y → K 1 (nI X.length) (nI u.length)) (h0 : ∀ X u w Y, Zip LL k X u w Y → (∀ e ∈ LL.flatten, e.1 ≠ k) → K 0 (nI X.length) (nI u.length)) : X0_present_w lv siz ky (nI k) K := by
  unfold X0_present_w
  refine seek_ok hT hW (by omega) (fun X u w Y hZ => found_ok hT hW hZ.1 (fun hw => ?_) (fun e w' hw => ?_))
  · subst hw
    have hn := h0 X u [] Y hZ (hZ.none hW (fun e w' h => by cases h))
    simp (disch := omega) only [nI_eq]
    exact ⟨fun _ => hn, fun h => absurd h (by omega)⟩
  · subst hw
    have hb := (hW.here hZ.1).2.2.2 e (by simp)
    simp (disch := omega) only [nI_eq]
    refine ⟨fun h => h0 X u _ Y hZ (hZ.none hW (fun e' w'' h2 => by cases h2; exact h)), fun h => ?_⟩
    obtain ⟨k', v⟩ := e
    have h : k' = k := h
    subst h
    exact h1 X u v w' Y hZ
theorem keyBefore_ok {LL : List (List (Nat × Int32))} {lv : Int32} {siz ky va : Nat → Int32} (hT : TR LL lv siz ky va) (hW : WF LL) {k : Nat} (hk : k < 2097152) {K : Int32 → Int32 → Int32 → Prop}
    (h0 : (∀ e ∈ LL.flatten, k ≤ e.1) → ∀ lf sl, K (-1) lf sl) (h1 : ∀ e ∈ LL.flatten, e.1 < k → (∀ x ∈ LL.flatten, x.1 < k → x.1 ≤ e.1) → ∀ lf sl, K (nI e.1) lf sl) : X0_keyBefore_w lv siz ky (nI k) K := by
  unfold X0_keyBefore_w
  refine seek_ok hT hW (by omega) (fun X u w Y hZ => ?_)
  obtain ⟨hl, hl32, hl8, hbd⟩ := hW.here hZ.1
  obtain ⟨hz1, hz2, hz3, hz4⟩ := hZ
  have hes : LL.flatten = (X.flatten ++ u) ++ (w ++ Y.flatten) := by rw [hz1]; simp
  rw [List.length_append] at hl8
  have hs := hW.2.2.2.2.1
  rw [hes] at hs
  have hs1 := (List.pairwise_append.mp hs).1
  -- the last of the keys below
  have hlast : ∀ P e, X.flatten ++ u = P ++ [e] → ∀ lf sl, K (nI e.1) lf sl := by
    intro P e hP
    refine h1 e (by rw [hes, hP]; simp) (hz2 e (by rw [hP]; simp)) (fun x hx hxk => ?_)
    rw [hes] at hx
    rcases List.mem_append.mp hx with hx | hx
    · rw [hP] at hx hs1
      rcases List.mem_append.mp hx with hx | hx
      · exact Nat.le_of_lt ((List.pairwise_append.mp hs1).2.2 x hx e (by simp))
      · rw [List.mem_singleton.mp hx]; exact Nat.le_refl _
    · have := hz3 x hx; omega
  simp (disch := omega) only [k0, k1, nI_leI, nI_eq, k8, pk_mul, nI_add]
  refine ⟨fun hu => ⟨fun hX => ?_, fun hX => ?_⟩, fun hu => ?_⟩
  · have hu : u = [] := List.length_eq_zero_iff.mp (by omega)
    subst hu
    rcases nil_or_app X with rfl | ⟨X', f, rfl⟩
    · simp at hX
    · have hf : f ≠ [] := by
        rcases hW.2.2.2.1 with h | h
        · rw [List.length_append, List.length_singleton] at hl; omega
        · exact h f (by rw [hz1]; simp)
      rcases nil_or_app f with rfl | ⟨f', e, rfl⟩
      · exact absurd rfl hf
      · have hzz : LL = X' ++ (f' ++ [e]) :: (([] ++ w) :: Y) := by rw [hz1]; simp
        obtain ⟨hs', hk'⟩ := hT.here hzz
        have hl8' := (hW.here hzz).2.2.1
        have hke := (hk' f'.length e zip_get).1
        have e1 : (X' ++ [f' ++ [e]]).length = X'.length + 1 := by simp
        have e2 : (f' ++ [e]).length = f'.length + 1 := by simp
        simp only [e1, e2] at hl hs' hl8' ⊢
        simp (disch := omega) only [k1, pk_sub, nI_clamp, hs', k8, pk_mul, nI_add, Nat.add_sub_cancel]
        rw [show X'.length * 8 + (f'.length + 1) - 1 = X'.length * 8 + f'.length by omega, hke]
        exact ⟨vin (by omega) (by omega), vin (by omega) (by omega), hlast (X'.flatten ++ f') e (by simp) _ _⟩
  · have hu : u = [] := List.length_eq_zero_iff.mp (by omega)
    have hX : X = [] := List.length_eq_zero_iff.mp (by omega)
    subst hu; subst hX
    exact h0 (fun e he => hz3 e (by rw [hes] at he; simpa using he)) _ _
  · rcases nil_or_app u with rfl | ⟨u', e, rfl⟩
    · simp at hu
    · have hzz : LL = X ++ (u' ++ e :: w) :: Y := by rw [hz1]; simp
      have hke := ((hT.here hzz).2 u'.length e zip_get).1
      have e2 : (u' ++ [e]).length = u'.length + 1 := by simp
      simp only [e2] at hl8 ⊢
      simp (disch := omega) only [pk_sub, nI_clamp]
      rw [show X.length * 8 + (u'.length + 1) - 1 = X.length * 8 + u'.length by omega, hke]
      exact ⟨vin (by omega) (by omega), hlast (X.flatten ++ u') e (by simp) _ _⟩
/-! the pointer's keys -/
def un : Nat → Nat
  | 0 => 16384
  | 1 => 128
  | _ => 1
def kof (p : Nat → Nat) : Nat → Nat
  | 0 => 0
  | 1 => p 0 * 16384
  | 2 => p 0 * 16384 + p 1 * 128
  | _ => p 0 * 16384 + p 1 * 128 + p 2
def eof (p : Nat → Nat) (n : Nat) : Nat := if n = 0 then 2097152 else kof p n + un (n - 1)
def dg (k : Nat) : Nat → Nat
  | 0 => k / 16384 % 128
  | 1 => k / 128 % 128
  | _ => k % 128
theorem unit_ok {j : Nat} (hj : j < 3) {K : Int32 → Prop} (h : K (nI (un j))) : X0_unit_w (nI j) K := by
  unfold X0_unit_w
  match j, hj with
  | 0, _ => exact h
  | 1, _ => exact h
  | 2, _ => exact h
theorem kof_s (p : Nat → Nat) {i : Nat} (h : i < 3) : kof p (i + 1) = kof p i + p i * un i := by
  match i, h with
  | 0, _ => simp [kof, un]
  | 1, _ => simp [kof, un]
  | 2, _ => simp [kof, un]
theorem keyOf_ok {sub : Nat → Int32} {p : Nat → Nat} {n : Nat} (hn : n ≤ 3) (hp : ∀ j, j < n → sub j = nI (p j)) {K : Int32 → Prop} (h : K (nI (kof p n))) : X0_keyOf_w sub (nI n) K := by
  unfold X0_keyOf_w
  refine ⟨fun x2 x3 => ∃ i, i ≤ n ∧ x3 = nI i ∧ x2 = nI (kof p i), fun x2 x3 => n - x3.toNatClampNeg, ⟨0, by omega, rfl, rfl⟩, ?_⟩
  rintro x2 x3 ⟨i, hi, rfl, rfl⟩
  simp (disch := omega) only [nI_leI, nI_clamp]
  refine ⟨fun h1 => ?_, fun h1 => ⟨vin (by omega) (by omega), unit_ok (by omega) ?_⟩⟩
  · obtain rfl : i = n := by omega
    exact h
  · rw [hp i (by omega), pk_mul, nI_add, nI_1, ← kof_s p (by omega), nI_clamp (by omega)]
    exact ⟨⟨i + 1, by omega, rfl, rfl⟩, by omega⟩
theorem endOf_ok {sub : Nat → Int32} {p : Nat → Nat} {n : Nat} (hn : n ≤ 3) (hp : ∀ j, j < n → sub j = nI (p j)) {K : Int32 → Prop} (h : K (nI (eof p n))) : X0_endOf_w sub (nI n) K := by
  unfold X0_endOf_w
  simp (disch := omega) only [k0, nI_eq]
  refine ⟨fun h1 => keyOf_ok hn hp ?_, fun h1 => ?_⟩
  · rw [k1, pk_sub (by omega)]
    refine unit_ok (by omega) ?_
    rw [nI_add]
    rw [eof, if_neg h1] at h
    exact h
  · rw [eof, if_pos h1] at h
    exact h
theorem subscriptAt_ok {k j : Nat} (hk : k < 2097152) (hj : j < 3) {K : Int32 → Prop} (h : K (nI (dg k j) - 51)) : X0_subscriptAt_w (nI k) (nI j) K := by
  unfold X0_subscriptAt_w
  match j, hj with
  | 0, _ =>
    rw [pk_shrN (by omega) _ 14 (by decide), pk_andN (by omega) 7 (by decide)]
    exact h
  | 1, _ =>
    rw [pk_shrN (by omega) _ 7 (by decide), pk_andN (by omega) 7 (by decide)]
    exact h
  | 2, _ =>
    rw [pk_shrN (by omega) _ 0 (by decide), pk_andN (by omega) 7 (by decide), Nat.pow_zero, Nat.div_one]
    exact h
end
section
/-! splitting a full leaf -/
theorem ix_ab {α : Type} {X Y : List α} {a b c : α} {j : Nat} (h : (X ++ a :: b :: Y)[j]? = some c) : (j < X.length ∧ X[j]? = some c) ∨ (j = X.length ∧ c = a) ∨ (j = X.length + 1 ∧ c = b) ∨ ∃ i, j = X.length + 2 + i ∧ Y[i]? = some c := by
  by_cases hj : j < X.length
  · rw [List.getElem?_append_left hj] at h
    exact Or.inl ⟨hj, h⟩
  · obtain ⟨i, rfl⟩ := Nat.exists_eq_add_of_le (Nat.le_of_not_lt hj)
    rw [List.getElem?_append_right (by omega), Nat.add_sub_cancel_left] at h
    match i, h with
    | 0, h => exact Or.inr (Or.inl ⟨rfl, by simpa using h.symm⟩)
    | 1, h => exact Or.inr (Or.inr (Or.inl ⟨rfl, by simpa using h.symm⟩))
    | i + 2, h => exact Or.inr (Or.inr (Or.inr ⟨i, by omega, by simpa using h⟩))
theorem ix_a {α : Type} {X Y : List α} {a c : α} {j : Nat} (h : (X ++ a :: Y)[j]? = some c) : (j < X.length ∧ X[j]? = some c) ∨ (j = X.length ∧ c = a) ∨ ∃ i, j = X.length + 1 + i ∧ Y[i]? = some c := by
  by_cases hj : j < X.length
  · rw [List.getElem?_append_left hj] at h
    exact Or.inl ⟨hj, h⟩
  · obtain ⟨i, rfl⟩ := Nat.exists_eq_add_of_le (Nat.le_of_not_lt hj)
    rw [List.getElem?_append_right (by omega), Nat.add_sub_cancel_left] at h
    match i, h with
    | 0, h => exact Or.inr (Or.inl ⟨rfl, by simpa using h.symm⟩)
    | i + 1, h => exact Or.inr (Or.inr ⟨i, by omega, by simpa using h⟩)
theorem ix_app {α : Type} {X Y : List α} {c : α} {j : Nat} (h : (X ++ Y)[j]? = some c) : (j < X.length ∧ X[j]? = some c) ∨ ∃ i, j = X.length + i ∧ Y[i]? = some c := by
  by_cases hj : j < X.length
  · rw [List.getElem?_append_left hj] at h
    exact Or.inl ⟨hj, h⟩
  · obtain ⟨i, rfl⟩ := Nat.exists_eq_add_of_le (Nat.le_of_not_lt hj)
    rw [List.getElem?_append_right (by omega), Nat.add_sub_cancel_left] at h
    exact Or.inr ⟨i, rfl, h⟩
theorem ixL {α : Type} {X Y : List α} {c : α} {j : Nat} (h : X[j]? = some c) : (X ++ Y)[j]? = some c := by
  rw [List.getElem?_append_left (ix_lt h)]; exact h
theorem ixR {α : Type} {X Y : List α} {c : α} {i : Nat} (h : Y[i]? = some c) : (X ++ Y)[X.length + i]? = some c := by
  rw [List.getElem?_append_right (by omega), Nat.add_sub_cancel_left]; exact h
theorem ixR1 {α : Type} {X Y : List α} {a c : α} {i : Nat} (h : Y[i]? = some c) : (X ++ a :: Y)[X.length + 1 + i]? = some c := by
  rw [show X.length + 1 + i = X.length + (i + 1) by omega]
  exact ixR (by simpa using h)
theorem m1n {n : Nat} (h : 0 < n) : nI n + -nI 1 = nI (n - 1) := m1 h
set_option maxHeartbeats 2000000 in
theorem splitLeaf_ok {LL X Y : List (List (Nat × Int32))} {f : List (Nat × Int32)} {lv : Int32} {siz ky va : Nat → Int32} (hT : TR LL lv siz ky va) (h8 : ∀ c ∈ LL, c.length ≤ 8) (h : LL = X ++ f :: Y) (hf : f.length = 8) (hn : LL.length ≤ 31) {K : Int32 → (Nat → Int32) → (Nat → Int32) → (Nat → Int32) → Prop}
    (hK : ∀ lv' siz' ky' va', TR (X ++ f.take 4 :: f.drop 4 :: Y) lv' siz' ky' va' → K lv' siz' ky' va') : X0_splitLeaf_w lv siz ky va (nI X.length) K := by
  have hl : X.length + 1 + Y.length = LL.length := by rw [h]; simp; omega
  obtain ⟨rfl, hTR⟩ := hT
  generalize hN : LL.length = n at hn hl
  generalize hL : X.length = l at hl
  have hlf : LL[l]? = some f := by rw [h, ← hL]; exact zip_get
  unfold X0_splitLeaf_w
  refine ⟨fun x s' k' v' => ∃ m, x = nI m ∧ l + 1 ≤ m ∧ m ≤ n ∧ s' = (fun j => if m < j ∧ j ≤ n then siz (j - 1) else siz j) ∧ k' = (fun q => if (m + 1) * 8 ≤ q ∧ q < (n + 1) * 8 then ky (q - 8) else ky q) ∧ v' = (fun q => if (m + 1) * 8 ≤ q ∧ q < (n + 1) * 8 then va (q - 8) else va q), fun x _ _ _ => x.toNatClampNeg, ⟨n, rfl, by omega, by omega, ?_, ?_, ?_⟩, ?_⟩
  · funext j; rw [if_neg (by omega)]
  · funext j; rw [if_neg (by omega)]
  · funext j; rw [if_neg (by omega)]
  rintro x s' k' v' ⟨m, rfl, hm1, hm2, rfl, rfl, rfl⟩
  simp (disch := omega) only [k1, nI_add, nI_leI]
  refine ⟨fun hx => ?_, fun hx => ?_⟩
  · obtain rfl : m = l + 1 := by omega
    refine copyLeaf_ok (by omega) (by omega) (by omega) ⟨vin (by omega) (by omega), vin (by omega) (by omega), fun x k' v' => ∃ i, x = nI i ∧ i ≤ 4 ∧ (∀ q, q < (l + 1) * 8 → k' q = ky q ∧ v' q = va q) ∧ (∀ q, q < i → k' ((l + 1) * 8 + q) = ky (l * 8 + (4 + q)) ∧ v' ((l + 1) * 8 + q) = va (l * 8 + (4 + q))) ∧ (∀ q, (l + 2) * 8 ≤ q → q < (n + 1) * 8 → k' q = ky (q - 8) ∧ v' q = va (q - 8)), fun x _ _ => 4 - x.toNatClampNeg, ⟨0, rfl, by omega, ?_, by omega, ?_⟩, ?_⟩
    · intro q hq
      simp only [cpL]
      rw [if_neg (by omega), if_neg (by omega), if_neg (by omega), if_neg (by omega)]
      exact ⟨rfl, rfl⟩
    · intro q hq hq2
      simp only [cpL]
      rw [if_neg (by omega), if_pos (by omega), if_neg (by omega), if_pos (by omega)]
      exact ⟨rfl, rfl⟩
    rintro x k' v' ⟨i, rfl, hi, h1, h2, h3⟩
    simp (disch := omega) only [k1, k4, k8, nI_add, nI_leI, pk_mul, nI_clamp]
    refine ⟨fun hx => ?_, fun hx => ⟨vin (by omega) (by omega), vin (by omega) (by omega), vin (by omega) (by omega), vin (by omega) (by omega), ⟨i + 1, rfl, by omega, ?_, ?_, ?_⟩, by omega⟩⟩
    · obtain rfl : i = 4 := by omega
      refine hK _ _ _ _ ⟨by rw [List.length_append]; simp only [List.length_cons]; rw [hL]; congr 1; omega, fun j c hj => ?_⟩
      rcases ix_ab hj with ⟨hj1, hj⟩ | ⟨hj1, hc⟩ | ⟨hj1, hc⟩ | ⟨r, hj1, hj⟩
      · have hj2 : LL[j]? = some c := by rw [h]; exact ixL hj
        have hj0 := hTR j c hj2
        have hc8 := h8 c (ix_mem hj2)
        refine ⟨?_, fun i e he => ?_⟩
        · rw [upd_n (by omega), upd_n (by omega), upd_n (by omega)]
          show (if l + 1 < j ∧ j ≤ n then siz (j - 1) else siz j) = _
          rw [if_neg (by omega)]
          exact hj0.1
        · have := ix_lt he
          rw [(h1 _ (by omega)).1, (h1 _ (by omega)).2]
          exact hj0.2 i e he
      · subst hc
        refine ⟨?_, fun i e he => ?_⟩
        · rw [upd_n (by omega), hj1, hL, upd_s, List.length_take, hf]
          rfl
        · have hi4 := ix_lt he
          rw [List.length_take] at hi4
          rw [List.getElem?_take_of_lt (by omega)] at he
          rw [hj1, hL, (h1 _ (by omega)).1, (h1 _ (by omega)).2]
          exact (hTR l f hlf).2 i e he
      · subst hc
        refine ⟨?_, fun i e he => ?_⟩
        · rw [hj1, hL, upd_s, List.length_drop, hf]
        · have hi4 := ix_lt he
          rw [List.length_drop] at hi4
          rw [List.getElem?_drop] at he
          rw [hj1, hL, (h2 i (by omega)).1, (h2 i (by omega)).2]
          exact (hTR l f hlf).2 _ e he
      · have hj2 : LL[X.length + 1 + r]? = some c := by rw [h]; exact ixR1 hj
        have hj0 := hTR _ c hj2
        have hc8 := h8 c (ix_mem hj2)
        have hr := ix_lt hj
        refine ⟨?_, fun i e he => ?_⟩
        · rw [upd_n (by omega), upd_n (by omega), upd_n (by omega)]
          show (if l + 1 < j ∧ j ≤ n then siz (j - 1) else siz j) = _
          rw [if_pos (by omega), show j - 1 = X.length + 1 + r by omega]
          exact hj0.1
        · have := ix_lt he
          rw [(h3 _ (by omega) (by omega)).1, (h3 _ (by omega) (by omega)).2, show j * 8 + i - 8 = (X.length + 1 + r) * 8 + i by omega]
          exact hj0.2 i e he
    · intro q hq
      rw [upd_n (by omega), upd_n (by omega)]
      exact h1 q hq
    · intro q hq
      by_cases hqi : q = i
      · rw [hqi, upd_s, upd_s, show l * 8 + i + 4 = l * 8 + (4 + i) by omega]
        exact h1 _ (by omega)
      · rw [upd_n (by omega), upd_n (by omega)]
        exact h2 q (by omega)
    · intro q hq hq2
      rw [upd_n (by omega), upd_n (by omega)]
      exact h3 q hq hq2
  · rw [pk_sub (by omega)]
    refine copyLeaf_ok (by omega) (by omega) (by omega) ?_
    rw [m1n (show 0 < m by omega), nI_clamp (by omega), nI_clamp (by omega)]
    refine ⟨⟨m - 1, rfl, by omega, by omega, ?_, ?_, ?_⟩, by omega⟩
    · funext j
      by_cases hj : j = m
      · rw [hj, upd_s]
        show (if m < m - 1 ∧ m - 1 ≤ n then siz (m - 1 - 1) else siz (m - 1)) = _
        rw [if_neg (by omega), if_pos (by omega)]
      · rw [upd_n hj]
        show (if m < j ∧ j ≤ n then siz (j - 1) else siz j) = _
        by_cases hc : m < j ∧ j ≤ n
        · rw [if_pos hc, if_pos (by omega)]
        · rw [if_neg hc, if_neg (by omega)]
    all_goals
      funext q
      simp only [cpL]
      by_cases hq : m * 8 ≤ q ∧ q < m * 8 + 8
      · rw [if_pos hq, if_neg (by omega), if_pos (by omega)]
        congr 1
        omega
      · rw [if_neg hq]
        by_cases hc : (m + 1) * 8 ≤ q ∧ q < (n + 1) * 8
        · rw [if_pos hc, if_pos (by omega)]
        · rw [if_neg hc, if_neg (by omega)]
end
section
/-! repacking into leaves of six -/
def PR (es : List (Nat × Int32)) (pk pv : Nat → Int32) : Prop := ∀ (i : Nat) (e : Nat × Int32), es[i]? = some e → pk i = nI e.1 ∧ pv i = e.2
theorem PR.snoc {es : List (Nat × Int32)} {pk pv : Nat → Int32} (h : PR es pk pv) {e : Nat × Int32} {a b : Int32} (ha : a = nI e.1) (hb : b = e.2) : PR (es ++ [e]) (upd pk es.length a) (upd pv es.length b) := by
  intro i x hi
  rcases ix_a hi with ⟨h1, h2⟩ | ⟨h1, h2⟩ | ⟨j, h1, h2⟩
  · rw [upd_n (by omega), upd_n (by omega)]; exact h i x h2
  · subst h1; subst h2; rw [upd_s, upd_s]; exact ⟨ha, hb⟩
  · simp at h2
theorem take_snoc {α : Type} {l : List α} {i : Nat} {e : α} (h : l[i]? = some e) : l.take (i + 1) = l.take i ++ [e] := by
  rw [List.take_succ, h]; rfl
def ch6 (es : List (Nat × Int32)) : List (List (Nat × Int32)) := (List.range (if es.length = 0 then 1 else (es.length + 5) / 6)).map (fun l => (es.drop (l * 6)).take 6)
theorem ch6_length (es : List (Nat × Int32)) : (ch6 es).length = if es.length = 0 then 1 else (es.length + 5) / 6 := by simp [ch6]
theorem ch6_get {es : List (Nat × Int32)} {l : Nat} {c : List (Nat × Int32)} (h : (ch6 es)[l]? = some c) : l < (if es.length = 0 then 1 else (es.length + 5) / 6) ∧ c = (es.drop (l * 6)).take 6 := by
  have h1 := ix_lt h
  rw [ch6_length] at h1
  refine ⟨h1, ?_⟩
  rw [ch6, List.getElem?_map, List.getElem?_range h1] at h
  exact (Option.some.inj h).symm
theorem ch6_take (es : List (Nat × Int32)) (m : Nat) : ((List.range m).map (fun l => (es.drop (l * 6)).take 6)).flatten = es.take (m * 6) := by
  induction m with
  | zero => simp
  | succ m ih =>
    rw [List.range_succ, List.map_append, List.flatten_append, ih, Nat.succ_mul, List.take_add]
    simp
theorem ch6_flat (es : List (Nat × Int32)) : (ch6 es).flatten = es := by
  rw [ch6, ch6_take]
  apply List.take_of_length_le
  by_cases h : es.length = 0
  · omega
  · rw [if_neg h]; omega
theorem ch6_8 {es c : List (Nat × Int32)} (h : c ∈ ch6 es) : c.length ≤ 6 := by
  obtain ⟨l, h⟩ := List.mem_iff_getElem?.mp h
  rw [(ch6_get h).2, List.length_take]
  omega
theorem ch6_ne {es c : List (Nat × Int32)} (hn : es.length ≠ 0) (h : c ∈ ch6 es) : c ≠ [] := by
  obtain ⟨l, h⟩ := List.mem_iff_getElem?.mp h
  obtain ⟨h1, h2⟩ := ch6_get h
  rw [if_neg hn] at h1
  intro hc
  have : c.length = 0 := by rw [hc]; rfl
  rw [h2, List.length_take, List.length_drop] at this
  omega
set_option maxHeartbeats 4000000 in
theorem repack_ok {LL : List (List (Nat × Int32))} {lv : Int32} {siz ky va pk pv : Nat → Int32} (hT : TR LL lv siz ky va) (h8 : ∀ c ∈ LL, c.length ≤ 8) (h32 : LL.length ≤ 32) (hes : LL.flatten.length ≤ 60) {K : Int32 → (Nat → Int32) → (Nat → Int32) → (Nat → Int32) → (Nat → Int32) → (Nat → Int32) → Prop}
    (hK : ∀ lv' siz' ky' va' pk' pv', TR (ch6 LL.flatten) lv' siz' ky' va' → K lv' siz' ky' va' pk' pv') : X0_repack_w lv siz ky va pk pv K := by
  obtain ⟨rfl, hTR⟩ := hT
  unfold X0_repack_w
  have hlen : ∀ l c, LL[l]? = some c → (LL.take l).flatten.length + c.length ≤ LL.flatten.length := by
    intro l c hc
    have := congrArg (fun z => (List.flatten z).length) (zip_at hc)
    simp only [List.flatten_append, List.flatten_cons, List.length_append] at this
    omega
  refine ⟨fun x1 x2 pk' pv' => ∃ l, x2 = nI l ∧ l ≤ LL.length ∧ x1 = nI (LL.take l).flatten.length ∧ PR (LL.take l).flatten pk' pv', fun _ x2 _ _ => LL.length - x2.toNatClampNeg, ⟨0, rfl, by omega, rfl, fun i e h => by simp at h⟩, ?_⟩
  rintro x1 x2 pk' pv' ⟨l, rfl, hl, rfl, hpr⟩
  simp (disch := omega) only [nI_leI, nI_clamp, k1, nI_add]
  refine ⟨fun h => ?_, fun h => ?_⟩
  · obtain rfl : l = LL.length := by omega
    rw [List.take_length] at hpr ⊢
    generalize hE : LL.flatten = es at *
    generalize hN : es.length = n at *
    generalize hM : (if n = 0 then 1 else (n + 5) / 6) = M at *
    have hM10 : M ≤ 10 ∧ n ≤ M * 6 ∧ 1 ≤ M := by
      rw [← hM]
      by_cases h : n = 0
      · rw [if_pos h]; omega
      · rw [if_neg h]; omega
    refine ⟨fun lv' => lv' = nI M, ?_, ?_⟩
    · rintro _ rfl
      refine ⟨fun x s' => ∃ l, x = nI l ∧ l ≤ M ∧ ∀ j, j < l → s' j = nI 0, fun x _ => M - x.toNatClampNeg, ⟨0, rfl, by omega, by omega⟩, ?_⟩
      rintro x s' ⟨l, rfl, hl, hs0⟩
      simp (disch := omega) only [nI_leI, nI_clamp, k1, k0, nI_add]
      refine ⟨fun h => ?_, fun h => ⟨vin (by omega) (by omega), ⟨l + 1, rfl, by omega, fun j hj => ?_⟩, by omega⟩⟩
      · obtain rfl : l = M := by omega
        refine ⟨fun x s6 ky6 v6 => ∃ i, x = nI i ∧ i ≤ n ∧ (∀ j, j < l → s6 j = nI (min 6 (i - 6 * j))) ∧ (∀ j e, j < i → es[j]? = some e → ky6 (j / 6 * 8 + (j - j / 6 * 6)) = nI e.1 ∧ v6 (j / 6 * 8 + (j - j / 6 * 6)) = e.2), fun x _ _ _ => n - x.toNatClampNeg, ⟨0, rfl, by omega, fun j hj => by rw [hs0 j hj]; congr 1; omega, by omega⟩, ?_⟩
        rintro x s6 ky6 v6 ⟨i, rfl, hi, hs6, hk6⟩
        simp (disch := omega) only [nI_leI, nI_clamp, k1, k6, k8, nI_add, pk_div, pk_mul, pk_sub]
        refine ⟨fun h => ?_, fun h => ⟨vin (by omega) (by omega), vin (by omega) (by omega), vin (by omega) (by omega), vin (by omega) (by omega), vin (by omega) (by omega), vin (by omega) (by omega), ⟨i + 1, rfl, by omega, fun j hj => ?_, fun j e hj he => ?_⟩, by omega⟩⟩
        · obtain rfl : i = n := by omega
          refine hK _ _ _ _ _ _ ⟨by rw [ch6_length, hN, hM], fun j c hc => ?_⟩
          obtain ⟨hj, rfl⟩ := ch6_get hc
          rw [hN, hM] at hj
          refine ⟨?_, fun r e he => ?_⟩
          · rw [hs6 j hj, List.length_take, List.length_drop, hN]; congr 1; omega
          · have hr := ix_lt he
            rw [List.length_take] at hr
            rw [List.getElem?_take_of_lt (by omega), List.getElem?_drop] at he
            have := hk6 (j * 6 + r) e (by have := ix_lt he; omega) he
            rw [show (j * 6 + r) / 6 * 8 + (j * 6 + r - (j * 6 + r) / 6 * 6) = j * 8 + r by omega] at this
            exact this
        · by_cases hji : j = i / 6
          · subst hji
            rw [upd_s, hs6 _ hj, nI_add]
            congr 1
            omega
          · rw [upd_n hji, hs6 j hj]
            congr 1
            omega
        · by_cases hji : j = i
          · subst hji
            rw [upd_s, upd_s]
            exact hpr j e he
          · rw [upd_n (by omega), upd_n (by omega)]
            exact hk6 j e (by omega) he
      · by_cases hjl : j = l
        · rw [hjl, upd_s]
        · rw [upd_n hjl]; exact hs0 j (by omega)
    · simp (disch := omega) only [k0, k1, k5, k6, nI_eq, nI_add, pk_div]
      refine ⟨fun h => ?_, fun h => ?_⟩
      · rw [← hM, if_neg h]
      · rw [← hM, if_pos h]
  · obtain ⟨c, hc⟩ := ix_get (l := LL) (i := l) (by omega)
    have hc8 := h8 c (ix_mem hc)
    have hsz := (hTR l c hc).1
    have hlc := hlen l c hc
    refine ⟨fun x1 x3 pk' pv' => ∃ i, x3 = nI i ∧ i ≤ c.length ∧ x1 = nI ((LL.take l).flatten.length + i) ∧ PR ((LL.take l).flatten ++ c.take i) pk' pv', fun _ x3 _ _ => 8 - x3.toNatClampNeg, ⟨0, rfl, by omega, rfl, by simpa using hpr⟩, ?_⟩
    rintro x1 x3 pk' pv' ⟨i, rfl, hi, rfl, hpr'⟩
    simp (disch := omega) only [nI_leI, nI_clamp, k1, k8, nI_add, pk_mul, hsz]
    refine ⟨vin (by omega) (by omega), fun h => ⟨⟨l + 1, rfl, by omega, ?_, ?_⟩, by omega⟩, fun h => ?_⟩
    · obtain rfl : i = c.length := by omega
      rw [take_snoc hc]; simp
    · obtain rfl : i = c.length := by omega
      rw [take_snoc hc]; simpa using hpr'
    · obtain ⟨e, he⟩ := ix_get (l := c) (i := i) (by omega)
      obtain ⟨e1, e2⟩ := (hTR l c hc).2 i e he
      refine ⟨vin (by omega) (by omega), vin (by omega) (by omega), vin (by omega) (by omega), vin (by omega) (by omega), ⟨i + 1, rfl, by omega, by rw [Nat.add_assoc], ?_⟩, by omega⟩
      have := hpr'.snoc e1 e2
      rw [List.length_append, List.length_take, Nat.min_eq_left hi, List.append_assoc, ← take_snoc he] at this
      exact this
end
section
/-! a place with room; inserting; putting -/
theorem WF.of {LL LL' : List (List (Nat × Int32))} (hW : WF LL) (hf : LL'.flatten = LL.flatten) (h1 : 1 ≤ LL'.length) (h2 : LL'.length ≤ 32) (h3 : ∀ c ∈ LL', c.length ≤ 8) (h4 : LL'.length = 1 ∨ ∀ c ∈ LL', c ≠ []) : WF LL' :=
  ⟨h1, h2, h3, h4, by rw [hf]; exact hW.2.2.2.2.1, by rw [hf]; exact hW.2.2.2.2.2⟩
set_option maxHeartbeats 4000000 in
theorem seekRoom_ok {LL : List (List (Nat × Int32))} {lv : Int32} {siz ky va pk pv : Nat → Int32} (hT : TR LL lv siz ky va) (hW : WF LL) (hes : LL.flatten.length ≤ 60) {k : Nat} (hk : k < 2097152) (habs : ∀ e ∈ LL.flatten, e.1 ≠ k) {K : Int32 → (Nat → Int32) → (Nat → Int32) → (Nat → Int32) → Int32 → Int32 → (Nat → Int32) → (Nat → Int32) → Prop}
    (hK : ∀ LL' X u w Y lv' siz' ky' va' pk' pv', TR LL' lv' siz' ky' va' → WF LL' → LL'.flatten = LL.flatten → LL' = X ++ (u ++ w) :: Y → (u ++ w).length < 8 → (∀ e ∈ X.flatten ++ u, e.1 < k) → (∀ e ∈ w ++ Y.flatten, k < e.1) → K lv' siz' ky' va' (nI X.length) (nI u.length) pk' pv') : X0_seekRoom_w lv siz ky va pk pv (nI k) K := by
  unfold X0_seekRoom_w
  refine ⟨fun lv' siz' ky' va' _ _ => ∃ LL', TR LL' lv' siz' ky' va' ∧ WF LL' ∧ LL'.flatten = LL.flatten ∧ LL'.length ≤ 31, ?_, ?_⟩
  · rintro lv' siz' ky' va' pk' pv' ⟨LL', hT', hW', hfl, h31⟩
    refine seek_ok hT' hW' (by omega) (fun X u w Y hZ => ?_)
    have hst : ∀ e ∈ w ++ Y.flatten, k < e.1 := by
      intro e he
      have h1 := hZ.2.2.1 e he
      have h2 := habs e (by rw [← hfl, hZ.1]; rcases List.mem_append.mp he with he | he <;> simp [he])
      omega
    refine ⟨fun lf sl => ∃ X u w Y, lf = nI X.length ∧ sl = nI u.length ∧ LL' = X ++ (u ++ w) :: Y ∧ (∀ e ∈ X.flatten ++ u, e.1 < k) ∧ (∀ e ∈ w ++ Y.flatten, k < e.1), ?_, ?_⟩
    · rintro lf sl ⟨X, u, w, Y, rfl, rfl, hLL, hlo, hhi⟩
      obtain ⟨hl, hl32, hl8, hbd⟩ := hW'.here hLL
      have hsz := (hT'.here hLL).1
      simp (disch := omega) only [nI_clamp, hsz, k8, k4, k1, nI_leI, nI_add]
      refine ⟨vin (by omega) (by omega), fun h => ?_, fun h => hK LL' X u w Y _ _ _ _ _ _ hT' hW' hfl hLL (by omega) hlo hhi⟩
      have hf8 : (u ++ w).length = 8 := by omega
      refine splitLeaf_ok hT' hW'.2.2.1 hLL hf8 h31 (fun lv2 siz2 ky2 va2 hT2 => ?_)
      have hfl2 : (X ++ (u ++ w).take 4 :: (u ++ w).drop 4 :: Y).flatten = LL'.flatten := by
        rw [hLL, List.flatten_append, List.flatten_append, List.flatten_cons, List.flatten_cons, List.flatten_cons, ← List.append_assoc ((u ++ w).take 4), List.take_append_drop]
      have hW2 : WF (X ++ (u ++ w).take 4 :: (u ++ w).drop 4 :: Y) := by
        refine hW'.of hfl2 (by simp; omega) ?_ ?_ (Or.inr ?_)
        · simp only [List.length_append, List.length_cons]; omega
        · intro c hc
          simp only [List.mem_append, List.mem_cons] at hc
          rcases hc with hc | hc | hc | hc
          · exact hW'.2.2.1 c (by rw [hLL]; simp [hc])
          · rw [hc, List.length_take]; omega
          · rw [hc, List.length_drop]; omega
          · exact hW'.2.2.1 c (by rw [hLL]; simp [hc])
        · intro c hc
          have hne : c ∈ X ∨ c ∈ Y → c ≠ [] := by
            intro hc
            rcases hW'.2.2.2.1 with h1 | h1
            · have hX : X = [] := List.length_eq_zero_iff.mp (by omega)
              have hY : Y = [] := List.length_eq_zero_iff.mp (by omega)
              rw [hX, hY] at hc
              simp at hc
            · exact h1 c (by rw [hLL]; simp; rcases hc with hc | hc <;> simp [hc])
          simp only [List.mem_append, List.mem_cons] at hc
          rcases hc with hc | hc | hc | hc
          · exact hne (Or.inl hc)
          · intro h0
            have := congrArg List.length (hc.symm.trans h0)
            rw [List.length_take, hf8] at this
            exact absurd this (by decide)
          · intro h0
            have := congrArg List.length (hc.symm.trans h0)
            rw [List.length_drop, hf8] at this
            exact absurd this (by decide)
          · exact hne (Or.inr hc)
      rw [List.length_append] at hl8 hf8
      simp (disch := omega) only [k1, k4, nI_leI, nI_add]
      refine ⟨fun h4 => ?_, fun h4 => ?_⟩
      · have e1 : (u ++ w).take 4 = u ++ w.take (4 - u.length) := by rw [List.take_append, List.take_of_length_le h4]
        have e2 : (u ++ w).drop 4 = w.drop (4 - u.length) := by rw [List.drop_append, List.drop_of_length_le h4, List.nil_append]
        refine hK _ X u (w.take (4 - u.length)) ((u ++ w).drop 4 :: Y) _ _ _ _ _ _ hT2 hW2 (hfl2.trans hfl) (by rw [e1]) ?_ hlo ?_
        · rw [List.length_append, List.length_take]; omega
        · rw [e2, List.flatten_cons, ← List.append_assoc, List.take_append_drop]
          exact hhi
      · have e1 : (u ++ w).take 4 = u.take 4 := by rw [List.take_append, show 4 - u.length = 0 by omega]; simp
        have e2 : (u ++ w).drop 4 = u.drop 4 ++ w := by rw [List.drop_append, show 4 - u.length = 0 by omega]; simp
        have := hK _ (X ++ [u.take 4]) (u.drop 4) w Y _ _ _ _ pk' pv' hT2 hW2 (hfl2.trans hfl) (by rw [e1, e2]; simp) ?_ ?_ hhi
        · rw [List.length_append, List.length_singleton, List.length_drop] at this
          rw [pk_sub (by omega)]
          exact this
        · rw [List.length_append, List.length_drop]; omega
        · intro e he
          refine hlo e ?_
          rw [List.flatten_append] at he
          simp only [List.flatten_cons, List.flatten_nil, List.append_nil, List.append_assoc] at he
          rw [List.take_append_drop] at he
          exact he
    · obtain ⟨hl, hl32, hl8, hbd⟩ := hW'.here hZ.1
      have hsame : ∃ X_1 u_1 w_1 Y_1, nI X.length = nI X_1.length ∧ nI u.length = nI u_1.length ∧ LL' = X_1 ++ (u_1 ++ w_1) :: Y_1 ∧ (∀ e ∈ X_1.flatten ++ u_1, e.1 < k) ∧ (∀ e ∈ w_1 ++ Y_1.flatten, k < e.1) := ⟨X, u, w, Y, rfl, rfl, hZ.1, hZ.2.1, hst⟩
      rw [List.length_append] at hl8
      simp (disch := omega) only [k0, nI_eq, nI_leI]
      refine ⟨fun _ => hsame, fun hu => ⟨fun _ => hsame, fun hX => ?_⟩⟩
      have hu : u = [] := List.length_eq_zero_iff.mp hu
      subst hu
      rcases nil_or_app X with rfl | ⟨X', f, rfl⟩
      · simp at hX
      · have hzz : LL' = X' ++ (f ++ []) :: (w :: Y) := by rw [hZ.1]; simp
        have hsz := (hT'.here hzz).1
        have e1 : (X' ++ [f]).length = X'.length + 1 := by simp
        rw [e1] at hl ⊢
        rw [k1, pk_sub (by omega), Nat.add_sub_cancel, nI_clamp (by omega), hsz]
        refine ⟨vin (by omega) (by omega), X', f, [], w :: Y, rfl, by simp, hzz, ?_, ?_⟩
        · intro e he
          exact hZ.2.1 e (by simpa using he)
        · intro e he
          exact hst e (by simpa using he)
  · have hlv := hT.1
    have h32 := hW.2.1
    rw [hlv]
    simp (disch := omega) only [k32, nI_ltI]
    refine ⟨fun h => ⟨LL, by rw [← hlv]; exact hT, hW, rfl, by omega⟩, fun h => repack_ok (by rw [← hlv]; exact hT) hW.2.2.1 h32 hes (fun lv' siz' ky' va' pk' pv' hT' => ⟨ch6 LL.flatten, hT', ?_, ch6_flat _, ?_⟩)⟩
    · refine hW.of (ch6_flat _) ?_ ?_ ?_ ?_
      · rw [ch6_length]; by_cases h0 : LL.flatten.length = 0
        · rw [if_pos h0]; omega
        · rw [if_neg h0]; omega
      · rw [ch6_length]; by_cases h0 : LL.flatten.length = 0
        · rw [if_pos h0]; omega
        · rw [if_neg h0]; omega
      · intro c hc; have := ch6_8 hc; omega
      · by_cases h0 : LL.flatten.length = 0
        · left; rw [ch6_length, if_pos h0]
        · right; intro c hc; exact ch6_ne h0 hc
    · rw [ch6_length]; by_cases h0 : LL.flatten.length = 0
      · rw [if_pos h0]; omega
      · rw [if_neg h0]; omega
set_option maxHeartbeats 4000000 in
theorem insert_ok {LL : List (List (Nat × Int32))} {lv tot : Int32} {siz ky va pk pv : Nat → Int32} (hT : TR LL lv siz ky va) (hW : WF LL) (hes : LL.flatten.length ≤ 60) {k : Nat} (hk : k < 2097152) (habs : ∀ e ∈ LL.flatten, e.1 ≠ k) {v : Int32} {K : Int32 → (Nat → Int32) → (Nat → Int32) → (Nat → Int32) → Int32 → Int32 → Int32 → (Nat → Int32) → (Nat → Int32) → Prop}
    (hK : ∀ LL' P S lv' siz' ky' va' lf' sl' pk' pv', TR LL' lv' siz' ky' va' → WF LL' → LL.flatten = P ++ S → LL'.flatten = P ++ (k, v) :: S → K lv' siz' ky' va' (tot + 1) lf' sl' pk' pv') : X0_insert_w lv siz ky va tot pk pv (nI k) v K := by
  unfold X0_insert_w
  refine seekRoom_ok hT hW hes hk habs (fun LL' X u w Y lv' siz' ky' va' pk' pv' hT' hW' hfl hLL hl7 hlo hhi => ?_)
  obtain ⟨hl, hl32, hl8, hbd⟩ := hW'.here hLL
  obtain ⟨hsz, hke⟩ := hT'.here hLL
  rw [List.length_append] at hl7 hl8
  rw [nI_clamp (by omega), hsz]
  refine ⟨vin (by omega) (by omega), fun x k' v' => ∃ i, x = nI i ∧ u.length ≤ i ∧ i ≤ (u ++ w).length ∧ k' = (fun q => if X.length * 8 + i < q ∧ q ≤ X.length * 8 + (u ++ w).length then ky' (q - 1) else ky' q) ∧ v' = (fun q => if X.length * 8 + i < q ∧ q ≤ X.length * 8 + (u ++ w).length then va' (q - 1) else va' q), fun x _ _ => x.toNatClampNeg, ⟨(u ++ w).length, rfl, by simp, by omega, ?_, ?_⟩, ?_⟩
  · funext q; rw [if_neg (by omega)]
  · funext q; rw [if_neg (by omega)]
  rintro x k' v' ⟨i, rfl, hi1, hi2, rfl, rfl⟩
  rw [List.length_append] at hi2
  simp (disch := omega) only [nI_leI, nI_clamp, k8, pk_mul, nI_add, k1]
  refine ⟨fun h => ?_, fun h => ?_⟩
  · obtain rfl : i = u.length := by omega
    refine ⟨vin (by omega) (by omega), vin (by omega) (by omega), vin (by omega) (by omega), vin (by omega) (by omega), hK (X ++ (u ++ (k, v) :: w) :: Y) (X.flatten ++ u) (w ++ Y.flatten) _ _ _ _ _ _ _ _ ?_ ?_ ?_ ?_⟩
    · refine ⟨?_, fun j c hj => ?_⟩
      · rw [hT'.1, hLL]; simp
      rcases ix_a hj with ⟨h1, h2⟩ | ⟨h1, h2⟩ | ⟨r, h1, h2⟩
      · have hj2 : LL'[j]? = some c := by rw [hLL]; exact ixL h2
        have hc8 := hW'.2.2.1 c (ix_mem hj2)
        refine ⟨?_, fun i e he => ?_⟩
        · rw [upd_n (by omega)]; exact (hT'.2 j c hj2).1
        · have := ix_lt he
          rw [upd_n (by omega), upd_n (by omega), if_neg (by omega), if_neg (by omega)]
          exact (hT'.2 j c hj2).2 i e he
      · subst h1; subst h2
        refine ⟨?_, fun i e he => ?_⟩
        · rw [upd_s]; congr 1; simp; omega
        · rcases ix_a he with ⟨h3, h4⟩ | ⟨h3, h4⟩ | ⟨r, h3, h4⟩
          · rw [upd_n (by omega), upd_n (by omega), if_neg (by omega), if_neg (by omega)]
            exact hke i e (ixL h4)
          · subst h3; subst h4
            rw [upd_s, upd_s]; exact ⟨rfl, rfl⟩
          · have := ix_lt h4
            rw [List.length_append]
            rw [upd_n (by omega), upd_n (by omega), if_pos (by omega), if_pos (by omega), h3, show X.length * 8 + (u.length + 1 + r) - 1 = X.length * 8 + (u.length + r) by omega]
            exact hke _ e (ixR h4)
      · have hj2 : LL'[j]? = some c := by rw [hLL, h1]; exact ixR1 h2
        refine ⟨?_, fun i e he => ?_⟩
        · rw [upd_n (by omega)]; exact (hT'.2 j c hj2).1
        · rw [List.length_append]
          rw [upd_n (by omega), upd_n (by omega), if_neg (by omega), if_neg (by omega)]
          exact (hT'.2 j c hj2).2 i e he
    · have hfl2 : (X ++ (u ++ (k, v) :: w) :: Y).flatten = (X.flatten ++ u) ++ (k, v) :: (w ++ Y.flatten) := by simp
      have hfl3 : LL'.flatten = (X.flatten ++ u) ++ (w ++ Y.flatten) := by rw [hLL]; simp
      refine ⟨by simp; omega, by simp; omega, ?_, ?_, ?_, ?_⟩
      · intro c hc
        simp only [List.mem_append, List.mem_cons] at hc
        rcases hc with hc | hc | hc
        · exact hW'.2.2.1 c (by rw [hLL]; simp [hc])
        · rw [hc]; simp; omega
        · exact hW'.2.2.1 c (by rw [hLL]; simp [hc])
      · rcases hW'.2.2.2.1 with h1 | h1
        · left; simp; omega
        · right
          intro c hc
          simp only [List.mem_append, List.mem_cons] at hc
          rcases hc with hc | hc | hc
          · exact h1 c (by rw [hLL]; simp [hc])
          · rw [hc]; simp
          · exact h1 c (by rw [hLL]; simp [hc])
      · rw [hfl2]
        have hs := hW'.2.2.2.2.1
        rw [hfl3, List.pairwise_append] at hs
        rw [List.pairwise_append]
        refine ⟨hs.1, List.pairwise_cons.mpr ⟨fun e he => hhi e he, hs.2.1⟩, fun a ha b hb => ?_⟩
        rcases List.mem_cons.mp hb with hb | hb
        · rw [hb]; exact hlo a ha
        · exact hs.2.2 a ha b hb
      · intro e he
        rw [hfl2] at he
        rcases List.mem_append.mp he with he | he
        · have := hlo e he; omega
        · rcases List.mem_cons.mp he with he | he
          · rw [he]; exact hk
          · exact hW'.2.2.2.2.2 e (by rw [hfl3]; exact List.mem_append_right _ he)
    · rw [← hfl, hLL]; simp
    · simp
  · rw [m1n (show 0 < i by omega), pk_sub (by omega), nI_clamp (by omega), nI_clamp (by omega)]
    refine ⟨vin (by omega) (by omega), vin (by omega) (by omega), vin (by omega) (by omega), vin (by omega) (by omega), ⟨i - 1, rfl, by omega, by rw [List.length_append]; omega, ?_, ?_⟩, by omega⟩
    all_goals
      funext q
      rw [List.length_append]
      by_cases hq : q = X.length * 8 + i
      · rw [hq, upd_s, if_neg (by omega), if_pos (by omega)]
      · rw [upd_n hq]
        by_cases hc : X.length * 8 + i < q ∧ q ≤ X.length * 8 + (u.length + w.length)
        · rw [if_pos hc, if_pos (by omega)]
        · rw [if_neg hc, if_neg (by omega)]
end
section
/-! taking a found key out -/
set_option maxHeartbeats 4000000 in
theorem removeFound_ok {LL X Y : List (List (Nat × Int32))} {u w : List (Nat × Int32)} {e : Nat × Int32} {lv tot : Int32} {siz ky va : Nat → Int32} (hT : TR LL lv siz ky va) (hW : WF LL) (hLL : LL = X ++ (u ++ e :: w) :: Y) {K : Int32 → (Nat → Int32) → (Nat → Int32) → (Nat → Int32) → Int32 → Prop}
    (hK : ∀ LL' lv' siz' ky' va', TR LL' lv' siz' ky' va' → WF LL' → LL'.flatten = (X.flatten ++ u) ++ (w ++ Y.flatten) → K lv' siz' ky' va' (tot - 1)) : X0_removeFound_w lv siz ky va tot (nI X.length) (nI u.length) K := by
  obtain ⟨hl, hl32, hl8, hbd⟩ := hW.here hLL
  obtain ⟨hsz, hke⟩ := hT.here hLL
  have hs := hW.2.2.2.2.1
  have hfl : LL.flatten = (X.flatten ++ u) ++ e :: (w ++ Y.flatten) := by rw [hLL]; simp
  have hsort : ((X.flatten ++ u) ++ (w ++ Y.flatten)).Pairwise (fun a b => a.1 < b.1) := by
    rw [hfl] at hs
    refine hs.sublist ?_
    exact List.Sublist.append_left (List.sublist_cons_self _ _) _
  have hbnd : ∀ x ∈ (X.flatten ++ u) ++ (w ++ Y.flatten), x.1 < 2097152 := by
    intro x hx
    refine hW.2.2.2.2.2 x ?_
    rw [hfl]
    rcases List.mem_append.mp hx with hx | hx
    · exact List.mem_append_left _ hx
    · exact List.mem_append_right _ (List.mem_cons_of_mem _ hx)
  rw [List.length_append, List.length_cons] at hl8 hsz
  unfold X0_removeFound_w
  rw [nI_clamp (by omega), hsz, k1, pk_sub (by omega), show u.length + (w.length + 1) - 1 = u.length + w.length by omega]
  generalize hsz1 : upd siz X.length (nI (u.length + w.length)) = siz1
  have e1 : siz1 X.length = nI (u.length + w.length) := by rw [← hsz1, upd_s]
  refine ⟨vin (by omega) (by omega), vin (by omega) (by omega), fun x k' v' => ∃ i, x = nI i ∧ u.length ≤ i ∧ i ≤ u.length + w.length ∧ k' = (fun q => if X.length * 8 + u.length ≤ q ∧ q < X.length * 8 + i then ky (q + 1) else ky q) ∧ v' = (fun q => if X.length * 8 + u.length ≤ q ∧ q < X.length * 8 + i then va (q + 1) else va q), fun x _ _ => 8 - x.toNatClampNeg, ⟨u.length, rfl, by omega, by omega, ?_, ?_⟩, ?_⟩
  · funext q; rw [if_neg (by omega)]
  · funext q; rw [if_neg (by omega)]
  rintro x k' v' ⟨i, rfl, hi1, hi2, hk', hv'⟩
  simp (disch := omega) only [e1, nI_leI, nI_clamp, k8, pk_mul, nI_add, k0, nI_ltI]
  refine ⟨vin (by omega) (by omega), fun h => ⟨vin (by omega) (by omega), ?_⟩, fun h => ⟨vin (by omega) (by omega), vin (by omega) (by omega), vin (by omega) (by omega), vin (by omega) (by omega), ⟨i + 1, rfl, by omega, by omega, ?_, ?_⟩, by omega⟩⟩
  · obtain rfl : i = u.length + w.length := by omega
    have hT1 : TR (X ++ (u ++ w) :: Y) lv siz1 k' v' := by
      refine ⟨?_, fun j c hj => ?_⟩
      · rw [hT.1, hLL]; simp
      rcases ix_a hj with ⟨h1, h2⟩ | ⟨h1, h2⟩ | ⟨r, h1, h2⟩
      · have hj2 : LL[j]? = some c := by rw [hLL]; exact ixL h2
        have hc8 := hW.2.2.1 c (ix_mem hj2)
        refine ⟨?_, fun i x he => ?_⟩
        · rw [← hsz1, upd_n (by omega)]; exact (hT.2 j c hj2).1
        · have := ix_lt he
          rw [hk', hv']
          try simp only []
          rw [if_neg (by omega), if_neg (by omega)]
          exact (hT.2 j c hj2).2 i x he
      · subst h1; subst h2
        refine ⟨?_, fun i x he => ?_⟩
        · rw [e1]; congr 1; simp
        · rw [hk', hv']
          try simp only []
          rcases ix_app he with ⟨h3, h4⟩ | ⟨r, h3, h4⟩
          · rw [if_neg (by omega), if_neg (by omega)]
            exact hke i x (ixL h4)
          · have := ix_lt h4
            rw [if_pos (by omega), if_pos (by omega), h3, show X.length * 8 + (u.length + r) + 1 = X.length * 8 + (u.length + 1 + r) by omega]
            exact hke _ x (ixR1 h4)
      · have hj2 : LL[j]? = some c := by rw [hLL, h1]; exact ixR1 h2
        refine ⟨?_, fun i x he => ?_⟩
        · rw [← hsz1, upd_n (by omega)]; exact (hT.2 j c hj2).1
        · rw [hk', hv']
          try simp only []
          rw [if_neg (by omega), if_neg (by omega)]
          exact (hT.2 j c hj2).2 i x he
    have hfl1 : (X ++ (u ++ w) :: Y).flatten = (X.flatten ++ u) ++ (w ++ Y.flatten) := by simp
    have hlen1 : (X ++ (u ++ w) :: Y).length = LL.length := by rw [hLL]; simp
    have h81 : ∀ c ∈ X ++ (u ++ w) :: Y, c.length ≤ 8 := by
      intro c hc
      simp only [List.mem_append, List.mem_cons] at hc
      rcases hc with hc | hc | hc
      · exact hW.2.2.1 c (by rw [hLL]; simp [hc])
      · rw [hc, List.length_append]; omega
      · exact hW.2.2.1 c (by rw [hLL]; simp [hc])
    refine ⟨fun hpos => ?_, fun hpos => ⟨fun hlv => ?_, fun hlv => ?_⟩⟩
    · refine hK _ _ _ _ _ hT1 ⟨by omega, by omega, h81, ?_, by rw [hfl1]; exact hsort, by rw [hfl1]; exact hbnd⟩ hfl1
      rcases hW.2.2.2.1 with h1 | h1
      · left; omega
      · right
        intro c hc
        simp only [List.mem_append, List.mem_cons] at hc
        rcases hc with hc | hc | hc
        · exact h1 c (by rw [hLL]; simp [hc])
        · intro h0
          have := congrArg List.length (hc.symm.trans h0)
          rw [List.length_append, List.length_nil] at this
          omega
        · exact h1 c (by rw [hLL]; simp [hc])
    · rw [hT.1, nI_eq (by omega) (by omega)] at hlv
      have hne : ∀ c ∈ LL, c ≠ [] := by
        rcases hW.2.2.2.1 with h1 | h1
        · omega
        · exact h1
      have hu : u = [] := List.length_eq_zero_iff.mp (by omega)
      have hw : w = [] := List.length_eq_zero_iff.mp (by omega)
      rw [hT.1]
      generalize hL : X.length = l at *
      generalize hN : LL.length = n at *
      refine ⟨fun x s' k2 v2 => ∃ m, x = nI m ∧ l ≤ m ∧ m < n ∧ s' = (fun j => if l ≤ j ∧ j < m then siz1 (j + 1) else siz1 j) ∧ k2 = (fun q => if l * 8 ≤ q ∧ q < m * 8 then k' (q + 8) else k' q) ∧ v2 = (fun q => if l * 8 ≤ q ∧ q < m * 8 then v' (q + 8) else v' q), fun x _ _ _ => n - x.toNatClampNeg, ⟨l, rfl, by omega, by omega, ?_, ?_, ?_⟩, ?_⟩
      · funext q; rw [if_neg (by omega)]
      · funext q; rw [if_neg (by omega)]
      · funext q; rw [if_neg (by omega)]
      rintro x s' k2 v2 ⟨m, rfl, hm1, hm2, hs2, hk2, hv2⟩
      simp (disch := omega) only [nI_add, nI_leI]
      refine ⟨fun h => ?_, fun h => copyLeaf_ok (by omega) (by omega) (by omega) ?_⟩
      · rw [pk_sub (by omega)]
        have hflY : (X ++ Y).flatten = (X.flatten ++ u) ++ (w ++ Y.flatten) := by rw [hu, hw]; simp
        refine hK (X ++ Y) _ _ _ _ ⟨by rw [List.length_append]; congr 1; omega, fun j c hj => ?_⟩ ⟨by rw [List.length_append]; omega, by rw [List.length_append]; omega, ?_, Or.inr ?_, by rw [hflY]; exact hsort, by rw [hflY]; exact hbnd⟩ hflY
        · rw [hs2, hk2, hv2]
          try simp only []
          rcases ix_app hj with ⟨h1, h2⟩ | ⟨r, h1, h2⟩
          · have hc := hT1.2 j c (ixL h2)
            have hc8 := hW.2.2.1 c (by rw [hLL]; simp [ix_mem h2])
            refine ⟨by rw [if_neg (by omega)]; exact hc.1, fun i x he => ?_⟩
            have := ix_lt he
            rw [if_neg (by omega), if_neg (by omega)]
            exact hc.2 i x he
          · have hc := hT1.2 _ c (ixR1 h2)
            have hc8 := hW.2.2.1 c (by rw [hLL]; simp [ix_mem h2])
            have := ix_lt h2
            refine ⟨by rw [if_pos (by omega), show j + 1 = X.length + 1 + r by omega]; exact hc.1, fun i x he => ?_⟩
            have := ix_lt he
            rw [if_pos (by omega), if_pos (by omega), show j * 8 + i + 8 = (X.length + 1 + r) * 8 + i by omega]
            exact hc.2 i x he
        · intro c hc
          exact hW.2.2.1 c (by rw [hLL]; rcases List.mem_append.mp hc with hc | hc <;> simp [hc])
        · intro c hc
          exact hne c (by rw [hLL]; rcases List.mem_append.mp hc with hc | hc <;> simp [hc])
      · rw [nI_clamp (by omega), nI_clamp (by omega)]
        refine ⟨⟨m + 1, rfl, by omega, by omega, ?_, ?_, ?_⟩, by omega⟩
        · funext j
          rw [hs2]
          by_cases hj : j = m
          · rw [hj, upd_s]
            try simp only []
            rw [if_neg (by omega), if_pos (by omega)]
          · rw [upd_n hj]
            try simp only []
            by_cases hc : l ≤ j ∧ j < m
            · rw [if_pos hc, if_pos (by omega)]
            · rw [if_neg hc, if_neg (by omega)]
        · rw [hk2]
          funext q
          simp only [cpL]
          by_cases hq : m * 8 ≤ q ∧ q < m * 8 + 8
          · rw [if_pos hq, if_neg (by omega), if_pos (by omega)]
            congr 1
            omega
          · rw [if_neg hq]
            by_cases hc : l * 8 ≤ q ∧ q < m * 8
            · rw [if_pos hc, if_pos (by omega)]
            · rw [if_neg hc, if_neg (by omega)]
        · rw [hv2]
          funext q
          simp only [cpL]
          by_cases hq : m * 8 ≤ q ∧ q < m * 8 + 8
          · rw [if_pos hq, if_neg (by omega), if_pos (by omega)]
            congr 1
            omega
          · rw [if_neg hq]
            by_cases hc : l * 8 ≤ q ∧ q < m * 8
            · rw [if_pos hc, if_pos (by omega)]
            · rw [if_neg hc, if_neg (by omega)]
    · rw [hT.1, nI_eq (by omega) (by omega)] at hlv
      exact hK _ _ _ _ _ hT1 ⟨by omega, by omega, h81, Or.inl (by omega), by rw [hfl1]; exact hsort, by rw [hfl1]; exact hbnd⟩ hfl1
  · rw [hk']
    funext q
    by_cases hq : q = X.length * 8 + i
    · rw [hq, upd_s]
      try simp only []
      rw [if_neg (by omega), if_pos (by omega)]
    · rw [upd_n hq]
      try simp only []
      by_cases hc : X.length * 8 + u.length ≤ q ∧ q < X.length * 8 + i
      · rw [if_pos hc, if_pos (by omega)]
      · rw [if_neg hc, if_neg (by omega)]
  · rw [hv']
    funext q
    by_cases hq : q = X.length * 8 + i
    · rw [hq, upd_s]
      try simp only []
      rw [if_neg (by omega), if_pos (by omega)]
    · rw [upd_n hq]
      try simp only []
      by_cases hc : X.length * 8 + u.length ≤ q ∧ q < X.length * 8 + i
      · rw [if_pos hc, if_pos (by omega)]
      · rw [if_neg hc, if_neg (by omega)]
end
section
/-! the tree as a sorted list of (key, value) -/
def TI (es : List (Nat × Int32)) (lv : Int32) (siz ky va : Nat → Int32) (tot : Int32) : Prop := es.length ≤ 60 ∧ tot = nI es.length ∧ ∃ LL, LL.flatten = es ∧ TR LL lv siz ky va ∧ WF LL
def PT (D : Nat) (p : Nat → Nat) (dep : Int32) (sub : Nat → Int32) : Prop := D ≤ 3 ∧ dep = nI D ∧ (∀ j, j < D → 1 ≤ p j ∧ p j ≤ 101) ∧ ∀ j, j < D → sub j = nI (p j)
theorem TI.sorted {es : List (Nat × Int32)} {lv tot : Int32} {siz ky va : Nat → Int32} (h : TI es lv siz ky va tot) : es.Pairwise (fun a b => a.1 < b.1) := by
  obtain ⟨-, -, LL, rfl, -, hW⟩ := h
  exact hW.2.2.2.2.1
theorem TI.bound {es : List (Nat × Int32)} {lv tot : Int32} {siz ky va : Nat → Int32} (h : TI es lv siz ky va tot) : ∀ e ∈ es, e.1 < 2097152 := by
  obtain ⟨-, -, LL, rfl, -, hW⟩ := h
  exact hW.2.2.2.2.2
theorem kof_lt {p : Nat → Nat} {n : Nat} (hn : n ≤ 3) (hp : ∀ j, j < n → 1 ≤ p j ∧ p j ≤ 101) : kof p n < eof p n ∧ eof p n ≤ 2097152 := by
  match n, hn with
  | 0, _ => simp [kof, eof]
  | 1, _ => have := hp 0 (by omega); simp [kof, eof, un]; omega
  | 2, _ => have := hp 0 (by omega); have := hp 1 (by omega); simp [kof, eof, un]; omega
  | 3, _ => have := hp 0 (by omega); have := hp 1 (by omega); have := hp 2 (by omega); simp [kof, eof, un]; omega
theorem kof_lt1 {p : Nat → Nat} {n : Nat} (hn : n ≤ 3) (hp : ∀ j, j < n → 1 ≤ p j ∧ p j ≤ 101) : kof p n < 2097152 := by
  have := kof_lt hn hp; omega
theorem put_ok {es : List (Nat × Int32)} {lv tot : Int32} {siz ky va pk pv : Nat → Int32} (h : TI es lv siz ky va tot) {k : Nat} (hk : k < 2097152) {v : Int32} (hroom : (∀ e ∈ es, e.1 ≠ k) → es.length < 60) {K : Int32 → (Nat → Int32) → (Nat → Int32) → (Nat → Int32) → Int32 → Int32 → Int32 → (Nat → Int32) → (Nat → Int32) → Prop}
    (hK : ∀ es' lv' siz' ky' va' tot' lf' sl' pk' pv', TI es' lv' siz' ky' va' tot' → (∀ x, x ∈ es' ↔ x = (k, v) ∨ (x ∈ es ∧ x.1 ≠ k)) → ((∀ e ∈ es, e.1 ≠ k) → es'.length = es.length + 1) → ((∃ e ∈ es, e.1 = k) → es'.length = es.length) → K lv' siz' ky' va' tot' lf' sl' pk' pv') : X0_put_w lv siz ky va tot pk pv (nI k) v K := by
  obtain ⟨h60, rfl, LL, rfl, hT, hW⟩ := h
  unfold X0_put_w
  refine present_ok hT hW hk (fun X u v0 w Y hZ => ⟨fun h => absurd h (by decide), fun _ => ?_⟩) (fun X u w Y hZ habs => ⟨fun _ => ?_, fun h => absurd rfl h⟩)
  · obtain ⟨hl, hl32, hl8, hbd⟩ := hW.here hZ.1
    rw [List.length_append, List.length_cons] at hl8
    simp (disch := omega) only [k8, pk_mul, nI_add, nI_clamp]
    have hfl : LL.flatten = (X.flatten ++ u) ++ (k, v0) :: (w ++ Y.flatten) := by rw [hZ.1]; simp
    have hfl' : (X ++ (u ++ (k, v) :: w) :: Y).flatten = (X.flatten ++ u) ++ (k, v) :: (w ++ Y.flatten) := by simp
    have hs := hW.2.2.2.2.1
    rw [hfl, List.pairwise_append, List.pairwise_cons] at hs
    refine ⟨vin (by omega) (by omega), hK ((X ++ (u ++ (k, v) :: w) :: Y).flatten) _ _ _ _ _ _ _ _ _ ⟨?_, ?_, X ++ (u ++ (k, v) :: w) :: Y, rfl, ?_, ?_⟩ ?_ ?_ ?_⟩
    · rw [hfl'] ; rw [hfl] at h60; simp only [List.length_append, List.length_cons] at h60 ⊢; exact h60
    · rw [hfl', hfl]; simp only [List.length_append, List.length_cons]
    · refine ⟨?_, fun j c hj => ?_⟩
      · rw [hT.1, hZ.1]; simp
      rcases ix_a hj with ⟨h1, h2⟩ | ⟨h1, h2⟩ | ⟨r, h1, h2⟩
      · have hj2 : LL[j]? = some c := by rw [hZ.1]; exact ixL h2
        have hc8 := hW.2.2.1 c (ix_mem hj2)
        refine ⟨(hT.2 j c hj2).1, fun i e he => ?_⟩
        have := ix_lt he
        rw [upd_n (by omega)]
        exact (hT.2 j c hj2).2 i e he
      · subst h1; subst h2
        obtain ⟨hsz, hke⟩ := hT.here hZ.1
        refine ⟨by rw [hsz]; simp, fun i e he => ?_⟩
        rcases ix_a he with ⟨h3, h4⟩ | ⟨h3, h4⟩ | ⟨r, h3, h4⟩
        · rw [upd_n (by omega)]
          exact hke i e (ixL h4)
        · subst h3; subst h4
          rw [upd_s]
          exact ⟨(hke u.length (k, v0) zip_get).1, rfl⟩
        · rw [upd_n (by omega), h3]
          exact hke _ e (ixR1 h4)
      · have hj2 : LL[j]? = some c := by rw [hZ.1, h1]; exact ixR1 h2
        refine ⟨(hT.2 j c hj2).1, fun i e he => ?_⟩
        rw [upd_n (by omega)]
        exact (hT.2 j c hj2).2 i e he
    · refine ⟨by simp; omega, by simp; omega, ?_, ?_, ?_, ?_⟩
      · intro c hc
        simp only [List.mem_append, List.mem_cons] at hc
        rcases hc with hc | hc | hc
        · exact hW.2.2.1 c (by rw [hZ.1]; simp [hc])
        · rw [hc]; simp; omega
        · exact hW.2.2.1 c (by rw [hZ.1]; simp [hc])
      · rcases hW.2.2.2.1 with h1 | h1
        · left; simp; omega
        · right
          intro c hc
          simp only [List.mem_append, List.mem_cons] at hc
          rcases hc with hc | hc | hc
          · exact h1 c (by rw [hZ.1]; simp [hc])
          · rw [hc]; simp
          · exact h1 c (by rw [hZ.1]; simp [hc])
      · rw [hfl', List.pairwise_append, List.pairwise_cons]
        refine ⟨hs.1, ⟨hs.2.1.1, hs.2.1.2⟩, fun a ha b hb => ?_⟩
        rcases List.mem_cons.mp hb with hb | hb
        · rw [hb]; exact hs.2.2 a ha (k, v0) List.mem_cons_self
        · exact hs.2.2 a ha b (List.mem_cons_of_mem _ hb)
      · intro e he
        rw [hfl'] at he
        rcases List.mem_append.mp he with he | he
        · exact hW.2.2.2.2.2 e (by rw [hfl]; exact List.mem_append_left _ he)
        · rcases List.mem_cons.mp he with he | he
          · rw [he]; exact hk
          · exact hW.2.2.2.2.2 e (by rw [hfl]; exact List.mem_append_right _ (List.mem_cons_of_mem _ he))
    · intro x
      rw [hfl', hfl]
      simp only [List.mem_append, List.mem_cons]
      constructor
      · rintro ((h1 | h1) | h1 | h1 | h1)
        · right; exact ⟨Or.inl (Or.inl h1), by have := hs.2.2 x (by simp [h1]) (k, v0) List.mem_cons_self; simp at this; omega⟩
        · right; exact ⟨Or.inl (Or.inr h1), by have := hs.2.2 x (by simp [h1]) (k, v0) List.mem_cons_self; simp at this; omega⟩
        · left; exact h1
        · right; exact ⟨Or.inr (Or.inr (Or.inl h1)), by have := hs.2.1.1 x (by simp [h1]); simp at this; omega⟩
        · right; exact ⟨Or.inr (Or.inr (Or.inr h1)), by have := hs.2.1.1 x (by simp [h1]); simp at this; omega⟩
      · rintro (h1 | ⟨(h1 | h1) | h1 | h1 | h1, h2⟩)
        · right; left; exact h1
        · left; left; exact h1
        · left; right; exact h1
        · rw [h1] at h2; exact absurd rfl h2
        · right; right; left; exact h1
        · right; right; right; exact h1
    · intro hab
      exact absurd rfl (hab (k, v0) (by rw [hfl]; simp))
    · intro _
      rw [hfl', hfl]; simp only [List.length_append, List.length_cons]
  · have h59 := hroom habs
    refine insert_ok hT hW h60 hk habs (fun LL' P S lv' siz' ky' va' lf' sl' pk' pv' hT' hW' e1 e2 => hK LL'.flatten _ _ _ _ _ _ _ _ _ ⟨?_, ?_, LL', rfl, hT', hW'⟩ ?_ ?_ ?_)
    · rw [e2]; rw [e1] at h59; simp only [List.length_append, List.length_cons] at h59 ⊢; omega
    · rw [e2, e1, nI_1]; simp only [List.length_append, List.length_cons]; rfl
    · intro x
      rw [e2]
      constructor
      · intro hx
        rcases List.mem_append.mp hx with hx | hx
        · have hx2 : x ∈ LL.flatten := by rw [e1]; exact List.mem_append_left _ hx
          exact Or.inr ⟨hx2, habs x hx2⟩
        · rcases List.mem_cons.mp hx with hx | hx
          · exact Or.inl hx
          · have hx2 : x ∈ LL.flatten := by rw [e1]; exact List.mem_append_right _ hx
            exact Or.inr ⟨hx2, habs x hx2⟩
      · rintro (hx | ⟨hx, -⟩)
        · rw [hx]; simp
        · rw [e1] at hx
          rcases List.mem_append.mp hx with hx | hx
          · exact List.mem_append_left _ hx
          · exact List.mem_append_right _ (List.mem_cons_of_mem _ hx)
    · intro _
      rw [e2, e1]; simp only [List.length_append, List.length_cons]; rfl
    · rintro ⟨e, he, hek⟩
      exact absurd hek (habs e he)
end
section
/-! kill and merge on the tree -/
def rg (a b : Nat) (e : Nat × Int32) : Bool := decide (a ≤ e.1) && decide (e.1 < b)
theorem rg_iff {a b : Nat} {e : Nat × Int32} : rg a b e = true ↔ a ≤ e.1 ∧ e.1 < b := by simp [rg]
theorem rg_not {a b : Nat} {e : Nat × Int32} : (!rg a b e) = true ↔ ¬ (a ≤ e.1 ∧ e.1 < b) := by
  rw [← rg_iff]; cases rg a b e <;> simp
theorem Zip.flat {LL X Y : List (List (Nat × Int32))} {u w : List (Nat × Int32)} {k : Nat} (h : Zip LL k X u w Y) : LL.flatten = (X.flatten ++ u) ++ (w ++ Y.flatten) := by rw [h.1]; simp
/-- all keys from the place on are at least b -/
theorem Zip.ge {LL X Y : List (List (Nat × Int32))} {u w : List (Nat × Int32)} {k b : Nat} (hW : WF LL) (h : Zip LL k X u w Y) (hb : ∀ e w', w = e :: w' → b ≤ e.1) : ∀ e ∈ w ++ Y.flatten, b ≤ e.1 := by
  intro e he
  match w, h, hb with
  | [], h, _ => rw [h.2.2.2 rfl] at he; simp at he
  | a :: w', h, hb =>
    have h1 := hb a w' rfl
    have hs := hW.2.2.2.2.1
    rw [h.flat, List.pairwise_append, List.cons_append, List.pairwise_cons] at hs
    rcases List.mem_cons.mp he with he | he
    · rw [he]; exact h1
    · have := hs.2.1.1 e he; omega
set_option maxHeartbeats 4000000 in
theorem kill_ok {D : Nat} {p : Nat → Nat} {es : List (Nat × Int32)} {dep lv tot : Int32} {sub siz ky va : Nat → Int32} (hp : PT D p dep sub) (h : TI es lv siz ky va tot) {K : Int32 → Int32 → (Nat → Int32) → (Nat → Int32) → (Nat → Int32) → Int32 → Int32 → Int32 → Prop}
    (hK : ∀ es' lv' siz' ky' va' tot' lf' sl', TI es' lv' siz' ky' va' tot' → es' = es.filter (fun e => !rg (kof p D) (eof p D) e) → K (nI (es.length - es'.length)) lv' siz' ky' va' tot' lf' sl') : X0_kill_w dep sub lv siz ky va tot K := by
  obtain ⟨hD, rfl, hpb, hps⟩ := hp
  have hkl := kof_lt hD hpb
  obtain ⟨h60, rfl, LL, rfl, hT, hW⟩ := h
  unfold X0_kill_w
  refine keyOf_ok hD hps (endOf_ok hD hps (seek_ok hT hW (by omega) (fun X u w Y hZ => ?_)))
  generalize hfr : kof p D = fr at *
  generalize hto : eof p D = to at *
  refine ⟨fun x3 x4 lv siz ky va tot lf sl => ∃ i LL' X u w Y, x3 = nI i ∧ x4 = nI i ∧ TR LL' lv siz ky va ∧ WF LL' ∧ Zip LL' fr X u w Y ∧ lf = nI X.length ∧ sl = nI u.length ∧ tot = nI LL'.flatten.length ∧ LL'.flatten.length + i = LL.flatten.length ∧ LL'.flatten.filter (fun e => !rg fr to e) = LL.flatten.filter (fun e => !rg fr to e), fun _ x4 _ _ _ _ _ _ _ => 60 - x4.toNatClampNeg, ⟨0, LL, X, u, w, Y, rfl, rfl, hT, hW, hZ, rfl, rfl, rfl, by omega, rfl⟩, ?_⟩
  rintro x3 x4 lv siz ky va tot lf sl ⟨i, LL', X, u, w, Y, rfl, rfl, hT', hW', hZ', rfl, rfl, rfl, hlen, hfil⟩
  have hexit : (∀ e ∈ LL'.flatten, ¬ (fr ≤ e.1 ∧ e.1 < to)) → K (nI i) lv siz ky va (nI LL'.flatten.length) (nI X.length) (nI u.length) := by
    intro hall
    have e1 : LL'.flatten.filter (fun e => !rg fr to e) = LL'.flatten := List.filter_eq_self.mpr (fun e he => rg_not.mpr (hall e he))
    have := hK LL'.flatten lv siz ky va (nI LL'.flatten.length) (nI X.length) (nI u.length) ⟨by omega, rfl, LL', rfl, hT', hW'⟩ (by rw [← hfil, e1])
    rw [show LL.flatten.length - LL'.flatten.length = i by omega] at this
    exact this
  have hge : ∀ b, (∀ e w', w = e :: w' → b ≤ e.1) → ∀ e ∈ LL'.flatten, ¬ (fr ≤ e.1 ∧ e.1 < b) := by
    intro b hb e he
    rw [hZ'.flat] at he
    rcases List.mem_append.mp he with he | he
    · have := hZ'.2.1 e he; omega
    · have := hZ'.ge hW' hb e he; omega
  rw [k60, nI_leI (by omega) (by omega)]
  refine ⟨fun h => hexit ?_, fun h => found_ok hT' hW' hZ'.1 (fun hw => ?_) (fun e w' hw => ?_)⟩
  · have : LL'.flatten = [] := List.length_eq_zero_iff.mp (by omega)
    rw [this]
    intro e he
    cases he
  · rw [nI_leI (by omega) (by omega)]
    refine ⟨fun _ => hexit (hge to (fun e w' h2 => by rw [hw] at h2; cases h2)), fun h => absurd h (by omega)⟩
  · have hb := (hW'.here hZ'.1).2.2.2 e (by rw [hw]; simp)
    rw [nI_leI (by omega) (by omega)]
    refine ⟨fun h2 => hexit (hge to (fun e' w'' h3 => by rw [hw] at h3; cases h3; exact h2)), fun h2 => ?_⟩
    subst hw
    refine removeFound_ok hT' hW' hZ'.1 (fun LL2 lv2 siz2 ky2 va2 hT2 hW2 hfl2 => seek_ok hT2 hW2 (by omega) (fun X2 u2 w2 Y2 hZ2 => ?_))
    have hfl := hZ'.flat
    have hln : LL'.flatten.length = LL2.flatten.length + 1 := by
      rw [hfl, hfl2]; simp only [List.length_append, List.length_cons]; omega
    simp (disch := omega) only [k1, nI_add, nI_clamp]
    refine ⟨⟨i + 1, LL2, X2, u2, w2, Y2, rfl, rfl, hT2, hW2, hZ2, rfl, rfl, by rw [pk_sub (by omega)]; congr 1; omega, by omega, ?_⟩, by omega⟩
    rw [← hfil, hfl, hfl2]
    have he : rg fr to e = true := rg_iff.mpr ⟨hZ'.2.2.1 e (by simp), by omega⟩
    simp [List.filter_append, List.filter_cons, he]
/-! subscripts that fit -/
def okS (z : Int32) : Prop := ¬ (z < -50 ∨ 50 < z)
theorem okS_q {z : Int32} (h : okS z) : ∃ q, 1 ≤ q ∧ q ≤ 101 ∧ z = nI q - 51 ∧ z + 51 = nI q := by
  have h1 : ¬ z < -50 := fun a => h (Or.inl a)
  have h2 : ¬ 50 < z := fun a => h (Or.inr a)
  rw [Int32.lt_iff_toInt_lt] at h1 h2
  have e1 : (-50 : Int32).toInt = -50 := by decide
  have e2 : (50 : Int32).toInt = 50 := by decide
  rw [e1] at h1
  rw [e2] at h2
  have hz : z = nI (z.toInt + 51).toNat - 51 := by
    apply Int32.toInt_inj.mp
    rw [show (51 : Int32) = nI 51 from rfl, pk_sub_toInt (by omega) (by omega)]
    omega
  refine ⟨(z.toInt + 51).toNat, by omega, by omega, hz, ?_⟩
  generalize nI (z.toInt + 51).toNat = y at hz
  rw [hz]
  grind
theorem bad_no {z : Int32} (h : okS z) {K : Int32 → Prop} (hK : K 0) : X0_bad_w z K := by
  unfold X0_bad_w
  refine ⟨fun h1 => absurd (Or.inl h1) h, fun _ => ⟨fun _ => hK, fun h1 => absurd (Or.inr (Int32.not_le.mp h1)) h⟩⟩
theorem bad_yes {z : Int32} (h : ¬ okS z) {K : Int32 → Prop} (hK : K 1) : X0_bad_w z K := by
  unfold X0_bad_w
  refine ⟨fun _ => hK, fun h1 => ⟨fun h2 => absurd (fun h3 => ?_) h, fun _ => hK⟩⟩
  rcases h3 with h3 | h3
  · exact h1 h3
  · exact absurd h2 (Int32.not_le.mpr h3)
def tgk (D : Nat) (p : Nat → Nat) (q k : Nat) : Nat := k + q * un (D - 1) - p (D - 1) * un (D - 1)
theorem tgk_facts {D : Nat} {p : Nat → Nat} {q k : Nat} (hD1 : 1 ≤ D) (hD : D ≤ 3) (hp : ∀ j, j < D → 1 ≤ p j ∧ p j ≤ 101) (hq : 1 ≤ q ∧ q ≤ 101) (h1 : kof p D ≤ k) (h2 : k < eof p D) : p (D - 1) * un (D - 1) ≤ k ∧ tgk D p q k < 2097152 := by
  unfold tgk
  match D, hD1, hD with
  | 1, _, _ => have := hp 0 (by omega); simp [kof, eof, un] at *; omega
  | 2, _, _ => have := hp 0 (by omega); have := hp 1 (by omega); simp [kof, eof, un] at *; omega
  | 3, _, _ => have := hp 0 (by omega); have := hp 1 (by omega); have := hp 2 (by omega); simp [kof, eof, un] at *; omega
theorem tgk_int {D : Nat} {p : Nat → Nat} {q k : Nat} (h : p (D - 1) * un (D - 1) ≤ k) : nI k + (nI q - nI (p (D - 1))) * nI (un (D - 1)) = nI (tgk D p q k) := by
  have e : nI (tgk D p q k) + nI (p (D - 1)) * nI (un (D - 1)) = nI k + nI q * nI (un (D - 1)) := by
    rw [pk_mul, pk_mul, nI_add, nI_add]
    congr 1
    unfold tgk
    omega
  generalize nI (tgk D p q k) = a at *
  generalize nI (p (D - 1)) = b at *
  generalize nI (un (D - 1)) = c at *
  generalize nI q = d at *
  generalize nI k = f at *
  grind
def ab (es : List (Nat × Int32)) (k : Nat) : Bool := es.all (fun x => decide (x.1 ≠ k))
theorem ab_iff {es : List (Nat × Int32)} {k : Nat} : ab es k = true ↔ ∀ e ∈ es, e.1 ≠ k := by simp [ab]
end
section
/-! merge on the tree -/
theorem filter_upto {P S : List (Nat × Int32)} {e : Nat × Int32} {fr q : Nat} (hP : ∀ x ∈ P, x.1 < q) (hS : ∀ x ∈ S, e.1 < x.1) (hfr : fr ≤ q) (he : q ≤ e.1) : (P ++ e :: S).filter (rg fr (e.1 + 1)) = (P ++ e :: S).filter (rg fr q) ++ [e] := by
  rw [List.filter_append, List.filter_append, List.filter_cons, List.filter_cons]
  have e1 : rg fr (e.1 + 1) e = true := rg_iff.mpr ⟨by omega, by omega⟩
  have e2 : rg fr q e = false := by cases h : rg fr q e; rfl; have := rg_iff.mp h; omega
  have e3 : S.filter (rg fr (e.1 + 1)) = [] := List.filter_eq_nil_iff.mpr (fun x hx h => by have := rg_iff.mp h; have := hS x hx; omega)
  have e4 : S.filter (rg fr q) = [] := List.filter_eq_nil_iff.mpr (fun x hx h => by have := rg_iff.mp h; have := hS x hx; omega)
  have e5 : P.filter (rg fr (e.1 + 1)) = P.filter (rg fr q) := by
    apply List.filter_congr
    intro x hx
    have := hP x hx
    rw [Bool.eq_iff_iff, rg_iff, rg_iff]
    omega
  rw [e1, e2, e3, e4, e5]
  simp
theorem filter_len_eq {α : Type} {f : α → Bool} {l : List α} (h : (l.filter f).length = l.length) : ∀ x ∈ l, f x = true := by
  have := List.length_filter_eq_length_iff.mp h
  exact this
set_option maxHeartbeats 8000000 in
theorem merge_ok {D : Nat} {p : Nat → Nat} {es : List (Nat × Int32)} {dep lv tot lf sl : Int32} {sub siz ky va mk mv pk pv : Nat → Int32} (hp : PT D p dep sub) (hD1 : 1 ≤ D) (h : TI es lv siz ky va tot) {q : Nat} (hq : 1 ≤ q ∧ q ≤ 101) {z : Int32} (hz : okS z) (hzq : z + 51 = nI q) {K : Int32 → Int32 → (Nat → Int32) → (Nat → Int32) → (Nat → Int32) → Int32 → Int32 → Int32 → (Nat → Int32) → (Nat → Int32) → (Nat → Int32) → (Nat → Int32) → Prop}
    (hFull : 60 < es.length + (es.filter (rg (kof p D) (eof p D))).countP (fun e => ab es (tgk D p q e.1)) → ∀ lf sl mk mv, K (-2) lv siz ky va tot lf sl mk mv pk pv)
    (hOk : es.length + (es.filter (rg (kof p D) (eof p D))).countP (fun e => ab es (tgk D p q e.1)) ≤ 60 → ∀ es' lv' siz' ky' va' tot' lf sl mk mv pk pv, TI es' lv' siz' ky' va' tot' → (∀ x, x ∈ es' ↔ (∃ y ∈ es.filter (rg (kof p D) (eof p D)), x = (tgk D p q y.1, y.2)) ∨ (x ∈ es ∧ ∀ y ∈ es.filter (rg (kof p D) (eof p D)), tgk D p q y.1 ≠ x.1)) → K (nI (es.filter (rg (kof p D) (eof p D))).length) lv' siz' ky' va' tot' lf sl mk mv pk pv) : X0_merge_w dep sub lv siz ky va tot lf sl mk mv pk pv z K := by
  obtain ⟨hD, rfl, hpb, hps⟩ := hp
  have hkl := kof_lt hD hpb
  have htg : ∀ k, kof p D ≤ k → k < eof p D → p (D - 1) * un (D - 1) ≤ k ∧ tgk D p q k < 2097152 := fun k h1 h2 => tgk_facts hD1 hD hpb hq h1 h2
  have hti : ∀ k, kof p D ≤ k → k < eof p D → nI k + (nI q - nI (p (D - 1))) * nI (un (D - 1)) = nI (tgk D p q k) := fun k h1 h2 => tgk_int (htg k h1 h2).1
  have htin : ∀ k k', kof p D ≤ k → k < eof p D → kof p D ≤ k' → k' < eof p D → tgk D p q k = tgk D p q k' → k = k' := by
    intro k k' h1 h2 h3 h4 h5
    have := (htg k h1 h2).1
    have := (htg k' h3 h4).1
    unfold tgk at h5
    omega
  have hsort := h.sorted
  have hTI := h
  obtain ⟨h60, htot, LL, hLL, hT, hW⟩ := h
  unfold X0_merge_w
  rw [k0, nI_eq (by omega) (by omega)]
  refine ⟨fun _ => bad_no hz ⟨fun _ => keyOf_ok hD hps (endOf_ok hD hps ?_), fun h => absurd rfl h⟩, fun h => absurd h (by omega)⟩
  rw [k1, pk_sub hD1, nI_clamp (by omega), hps (D - 1) (by omega), hzq]
  refine ⟨vin (by omega) (by omega), unit_ok (by omega) (seek_ok hT hW (by omega) (fun X u w Y hZ => ?_))⟩
  generalize hfr : kof p D = fr at *
  generalize hto : eof p D = to at *
  generalize htgd : tgk D p q = tg at *
  generalize hmv : es.filter (rg fr to) = mvd at *
  have hmem : ∀ y ∈ mvd, y ∈ es ∧ fr ≤ y.1 ∧ y.1 < to := by
    intro y hy
    rw [← hmv] at hy
    obtain ⟨h1, h2⟩ := List.mem_filter.mp hy
    exact ⟨h1, rg_iff.mp h2⟩
  have hml : mvd.length ≤ es.length := by rw [← hmv]; exact List.length_filter_le _ _
  have hms : mvd.Pairwise (fun a b => a.1 < b.1) := by rw [← hmv]; exact hsort.sublist List.filter_sublist
  refine ⟨fun x5 _ _ mk' mv' => x5 = nI mvd.length ∧ PR mvd mk' mv', ?_, ?_⟩
  · -- counting, then putting
    rintro x5 lf9 sl9 mk9 mv9 ⟨rfl, hpr⟩
    refine ⟨fun x6 x7 _ _ => ∃ i, x7 = nI i ∧ i ≤ mvd.length ∧ x6 = nI ((mvd.take i).countP (fun e => ab es (tg e.1))), fun _ x7 _ _ => 60 - x7.toNatClampNeg, ⟨0, rfl, by omega, rfl⟩, ?_⟩
    rintro x6 x7 lf10 sl10 ⟨i, rfl, hi, rfl⟩
    have hcl : (mvd.take i).countP (fun e => ab es (tg e.1)) ≤ i := Nat.le_trans List.countP_le_length (by rw [List.length_take]; omega)
    rw [htot]
    simp (disch := omega) only [nI_leI, nI_add, nI_clamp, k60, k1]
    refine ⟨fun h => ?_, fun h => ?_⟩
    · obtain rfl : i = mvd.length := by omega
      rw [List.take_length] at hcl ⊢
      refine ⟨fun h2 => ?_, fun h2 => by rw [← htot]; exact hFull (by omega) _ _ _ _⟩
      have hOk := hOk (by omega)
      clear hFull
      refine ⟨fun x7 lv' siz' ky' va' tot' _ _ _ _ => ∃ i es', x7 = nI i ∧ i ≤ mvd.length ∧ TI es' lv' siz' ky' va' tot' ∧ es'.length = es.length + (mvd.take i).countP (fun e => ab es (tg e.1)) ∧ (∀ x, x ∈ es' ↔ (∃ y ∈ mvd.take i, x = (tg y.1, y.2)) ∨ (x ∈ es ∧ ∀ y ∈ mvd.take i, tg y.1 ≠ x.1)), fun x7 _ _ _ _ _ _ _ _ _ => 60 - x7.toNatClampNeg, ⟨0, es, rfl, by omega, by rw [← htot]; exact hTI, by simp, fun x => by simp⟩, ?_⟩
      rintro x7 lv' siz' ky' va' tot' lf' sl' pk' pv' ⟨i, es', rfl, hi, hTI', hlen', hmem'⟩
      simp (disch := omega) only [nI_leI, nI_add, nI_clamp, k1]
      refine ⟨fun h => ?_, fun h => ?_⟩
      · obtain rfl : i = mvd.length := by omega
        rw [List.take_length] at hmem'
        exact hOk es' _ _ _ _ _ _ _ _ _ _ _ hTI' hmem'
      · obtain ⟨e, he⟩ := ix_get (l := mvd) (i := i) (by omega)
        obtain ⟨he0, he1, he2⟩ := hmem e (ix_mem he)
        have htake := take_snoc he
        have hcle : (mvd.take (i + 1)).countP (fun e => ab es (tg e.1)) ≤ mvd.countP (fun e => ab es (tg e.1)) := by
          conv => rhs; rw [← List.take_append_drop (i + 1) mvd, List.countP_append]
          omega
        rw [(hpr i e he).1, (hpr i e he).2, hti e.1 he1 he2]
        have hpre : (∀ x ∈ es', x.1 ≠ tg e.1) ↔ ab es (tg e.1) = true := by
          rw [ab_iff]
          constructor
          · intro hx x hxe hxt
            by_cases hc : ∀ y ∈ mvd.take i, tg y.1 ≠ x.1
            · exact hx x ((hmem' x).mpr (Or.inr ⟨hxe, hc⟩)) hxt
            · apply hc
              intro y hy hyt
              obtain ⟨j, hj, hjy⟩ := mem_take_ix hy
              obtain ⟨-, hy1, hy2⟩ := hmem y (ix_mem hjy)
              have h6 := pw_ix hms hjy he hj
              have := htin _ _ hy1 hy2 he1 he2 (hyt.trans hxt)
              omega
          · intro hx x hxe hxt
            rcases (hmem' x).mp hxe with ⟨y, hy, rfl⟩ | ⟨hx1, hx2⟩
            · obtain ⟨j, hj, hjy⟩ := mem_take_ix hy
              obtain ⟨-, hy1, hy2⟩ := hmem y (ix_mem hjy)
              have h6 := pw_ix hms hjy he hj
              have := htin _ _ hy1 hy2 he1 he2 hxt
              omega
            · exact hx x hx1 hxt
        have hct : (mvd.take (i + 1)).countP (fun e => ab es (tg e.1)) = (mvd.take i).countP (fun e => ab es (tg e.1)) + (if ab es (tg e.1) = true then 1 else 0) := by
          rw [htake, List.countP_append, List.countP_singleton]
        refine ⟨vin (by omega) (by omega), vin (by omega) (by omega), put_ok hTI' (htg e.1 he1 he2).2 (fun ha => ?_) (fun es2 lv2 siz2 ky2 va2 tot2 lf2 sl2 pk2 pv2 hTI2 hmem2 hlA hlB => ?_)⟩
        · have := hpre.mp ha
          rw [this, if_pos rfl] at hct
          omega
        · try simp (disch := omega) only [nI_clamp]
          refine ⟨⟨i + 1, es2, rfl, by omega, hTI2, ?_, fun x => ?_⟩, by omega⟩
          · by_cases ha : ab es (tg e.1) = true
            · rw [hct, if_pos ha, hlA (hpre.mpr ha)]; omega
            · rw [hct, if_neg ha, hlB ?_]
              · omega
              · have h7 : ¬ ∀ x ∈ es', x.1 ≠ tg e.1 := fun h8 => ha (hpre.mp h8)
                simp only [Classical.not_forall, Classical.not_not, not_imp] at h7
                obtain ⟨x, hx, hxt⟩ := h7
                exact ⟨x, hx, hxt⟩
          · rw [hmem2, hmem', htake]
            simp only [List.mem_append, List.mem_singleton]
            constructor
            · rintro (rfl | ⟨⟨y, hy, rfl⟩ | ⟨hx1, hx2⟩, hne⟩)
              · exact Or.inl ⟨e, Or.inr rfl, rfl⟩
              · exact Or.inl ⟨y, Or.inl hy, rfl⟩
              · refine Or.inr ⟨hx1, fun y hy => ?_⟩
                rcases hy with hy | rfl
                · exact hx2 y hy
                · exact fun h => hne h.symm
            · rintro (⟨y, hy | rfl, rfl⟩ | ⟨hx1, hx2⟩)
              · refine Or.inr ⟨Or.inl ⟨y, hy, rfl⟩, fun ht => ?_⟩
                obtain ⟨j, hj, hjy⟩ := mem_take_ix hy
                obtain ⟨-, hy1, hy2⟩ := hmem y (ix_mem hjy)
                have h6 := pw_ix hms hjy he hj
                have := htin _ _ hy1 hy2 he1 he2 ht
                omega
              · exact Or.inl rfl
              · exact Or.inr ⟨Or.inr ⟨hx1, fun y hy => hx2 y (Or.inl hy)⟩, fun h => hx2 e (Or.inr rfl) h.symm⟩
    · obtain ⟨e, he⟩ := ix_get (l := mvd) (i := i) (by omega)
      obtain ⟨he0, he1, he2⟩ := hmem e (ix_mem he)
      have htake := take_snoc he
      rw [(hpr i e he).1, hti e.1 he1 he2]
      refine ⟨vin (by omega) (by omega), present_ok hT hW (htg e.1 he1 he2).2 (fun X u v w Y hZ => ⟨fun _ => ⟨⟨i + 1, rfl, by omega, ?_⟩, by omega⟩, fun h => absurd h (by decide)⟩) (fun X u w Y hZ hab => ⟨fun h => absurd rfl h, fun _ => ⟨⟨i + 1, rfl, by omega, ?_⟩, by omega⟩⟩)⟩
      · rw [htake, List.countP_append, List.countP_singleton, if_neg, Nat.add_zero]
        intro ha
        exact ab_iff.mp ha (tg e.1, v) (by rw [← hLL, hZ.flat]; simp) rfl
      · rw [htake, List.countP_append, List.countP_singleton, if_pos (ab_iff.mpr (by rw [← hLL]; exact hab))]
  · -- gathering
    refine ⟨fun x5 lf sl mk' mv' => ∃ b X u w Y, fr ≤ b ∧ b ≤ to ∧ Zip LL b X u w Y ∧ lf = nI X.length ∧ sl = nI u.length ∧ x5 = nI (es.filter (rg fr b)).length ∧ PR (es.filter (rg fr b)) mk' mv', fun x5 _ _ _ _ => 60 - x5.toNatClampNeg, ⟨fr, X, u, w, Y, by omega, by omega, hZ, rfl, rfl, ?_, ?_⟩, ?_⟩
    · rw [List.filter_eq_nil_iff.mpr (fun x hx h => by have := rg_iff.mp h; omega)]; rfl
    · rw [List.filter_eq_nil_iff.mpr (fun x hx h => by have := rg_iff.mp h; omega)]
      intro i e h; simp at h
    rintro x5 lf' sl' mk' mv' ⟨b, X, u, w, Y, hb1, hb2, hZ, rfl, rfl, rfl, hpr⟩
    have hfl : (es.filter (rg fr b)).length ≤ es.length := List.length_filter_le _ _
    have hdone : (∀ x ∈ es, fr ≤ x.1 → x.1 < to → x.1 < b) → nI (es.filter (rg fr b)).length = nI mvd.length ∧ PR mvd mk' mv' := by
      intro hall
      have : es.filter (rg fr b) = mvd := by
        rw [← hmv]
        apply List.filter_congr
        intro x hx
        have := hall x hx
        rw [Bool.eq_iff_iff, rg_iff, rg_iff]
        omega
      rw [this] at hpr ⊢
      exact ⟨rfl, hpr⟩
    obtain ⟨hl, hl32, hl8, hbd⟩ := hW.here hZ.1
    rw [k60, nI_leI (by omega) (by omega)]
    refine ⟨fun h => hdone ?_, fun h => found_ok hT hW hZ.1 (fun hw => ?_) (fun e w' hw => ?_)⟩
    · intro x hx _ _
      exact (rg_iff.mp (filter_len_eq (f := rg fr b) (by omega) x hx)).2
    · rw [nI_leI (by omega) (by omega)]
      refine ⟨fun _ => hdone (fun x hx _ _ => ?_), fun h => absurd h (by omega)⟩
      rw [← hLL, hZ.flat] at hx
      rcases List.mem_append.mp hx with hx | hx
      · exact hZ.2.1 x hx
      · rw [hw, hZ.2.2.2 hw] at hx; simp at hx
    · subst hw
      have hbe := hbd e (by simp)
      rw [nI_leI (by omega) (by omega)]
      refine ⟨fun h2 => hdone (fun x hx hx1 hx2 => ?_), fun h2 => ?_⟩
      · rw [← hLL, hZ.flat] at hx
        rcases List.mem_append.mp hx with hx | hx
        · exact hZ.2.1 x hx
        · have := hZ.ge hW (b := to) (fun e' w'' h3 => by cases h3; exact h2) x hx
          omega
      · have heb : b ≤ e.1 := hZ.2.2.1 e (by simp)
        obtain ⟨e1, e2⟩ := (hT.here hZ.1).2 u.length e zip_get
        rw [List.length_append, List.length_cons] at hl8
        simp (disch := omega) only [k8, k1, pk_mul, nI_add, nI_clamp, pk_sub, e1, e2, Nat.add_sub_cancel, upd_s]
        have hs := hsort
        have hes : es = (X.flatten ++ u) ++ e :: (w' ++ Y.flatten) := by rw [← hLL, hZ.flat]; simp
        rw [hes, List.pairwise_append, List.pairwise_cons] at hs
        have hfil : es.filter (rg fr (e.1 + 1)) = es.filter (rg fr b) ++ [e] := by
          rw [hes]
          exact filter_upto (fun x hx => hZ.2.1 x hx) (fun x hx => hs.2.1.1 x hx) hb1 heb
        refine ⟨vin (by omega) (by omega), vin (by omega) (by omega), vin (by omega) (by omega), vin (by omega) (by omega), vin (by omega) (by omega), seek_ok hT hW (by omega) (fun X2 u2 w2 Y2 hZ2 => ?_)⟩
        try simp (disch := omega) only [nI_clamp]
        refine ⟨⟨e.1 + 1, X2, u2, w2, Y2, by omega, by omega, hZ2, rfl, rfl, ?_, ?_⟩, by omega⟩
        · rw [hfil, List.length_append, List.length_singleton]
        · rw [hfil]; exact hpr.snoc rfl rfl
end
section
/-! the tree's public calls, in terms of the sorted list -/
def LA (es : List (Nat × Int32)) (k : Nat) (e : Nat × Int32) : Prop := e ∈ es ∧ k ≤ e.1 ∧ ∀ x ∈ es, k ≤ x.1 → e.1 ≤ x.1
def GB (es : List (Nat × Int32)) (k : Nat) (e : Nat × Int32) : Prop := e ∈ es ∧ e.1 < k ∧ ∀ x ∈ es, x.1 < k → x.1 ≤ e.1
theorem seekfound_ok {es : List (Nat × Int32)} {lv tot : Int32} {siz ky va : Nat → Int32} (h : TI es lv siz ky va tot) {k : Nat} (hk : k < 1073741824) {K : Int32 → Int32 → Int32 → Prop}
    (hN : (∀ x ∈ es, x.1 < k) → ∀ lf sl, K (nI 2097152) lf sl) (hS : ∀ e, LA es k e → ∀ lf sl, vp_in (lf * 8 + sl) 256 → va (lf * 8 + sl).toNatClampNeg = e.2 → K (nI e.1) lf sl) : X0_seek_w lv siz ky (nI k) (fun lf sl => X0_found_w siz ky lf sl (fun r => K r lf sl)) := by
  obtain ⟨h60, rfl, LL, rfl, hT, hW⟩ := h
  refine seek_ok hT hW hk (fun X u w Y hZ => found_ok hT hW hZ.1 (fun hw => hN (fun x hx => ?_) _ _) (fun e w' hw => ?_))
  · rw [hZ.flat] at hx
    rcases List.mem_append.mp hx with hx | hx
    · exact hZ.2.1 x hx
    · rw [hw, hZ.2.2.2 hw] at hx; simp at hx
  · subst hw
    obtain ⟨hl, hl32, hl8, hbd⟩ := hW.here hZ.1
    rw [List.length_append, List.length_cons] at hl8
    have hva := ((hT.here hZ.1).2 u.length e zip_get).2
    refine hS e ⟨by rw [hZ.flat]; simp, hZ.2.2.1 e (by simp), fun x hx hkx => ?_⟩ _ _ ?_ ?_
    · rw [hZ.flat] at hx
      rcases List.mem_append.mp hx with hx | hx
      · have := hZ.2.1 x hx; omega
      · exact hZ.ge hW (fun e' w'' h3 => by cases h3; exact Nat.le_refl _) x hx
    · simp only [k8, pk_mul, nI_add]; exact vin (by omega) (by omega)
    · simp (disch := omega) only [k8, pk_mul, nI_add, nI_clamp]; exact hva
/-- the first key that counts as behind the pointer's node -/
def kbh (p : Nat → Nat) (D : Nat) : Nat := if D = 0 then 0 else kof p D + 1
theorem keyBehind_ok {D : Nat} {p : Nat → Nat} {es : List (Nat × Int32)} {dep lv tot : Int32} {sub siz ky va : Nat → Int32} (hp : PT D p dep sub) (h : TI es lv siz ky va tot) {K : Int32 → Int32 → Int32 → Prop}
    (hN : (∀ x ∈ es, x.1 < kbh p D) → ∀ lf sl, K (nI 2097152) lf sl) (hS : ∀ e, LA es (kbh p D) e → ∀ lf sl, vp_in (lf * 8 + sl) 256 → va (lf * 8 + sl).toNatClampNeg = e.2 → K (nI e.1) lf sl) : X0_keyBehind_w dep sub lv siz ky K := by
  obtain ⟨hD, rfl, hpb, hps⟩ := hp
  have hkl := kof_lt hD hpb
  unfold X0_keyBehind_w
  refine keyOf_ok hD hps ?_
  rw [k0, nI_eq (by omega) (by omega), nI_1]
  refine ⟨fun hd => ?_, fun hd => ?_⟩
  · rw [kbh, if_neg hd] at hN hS
    exact seekfound_ok h (by omega) hN hS
  · rw [kbh, if_pos hd] at hN hS
    exact seekfound_ok h (by omega) hN hS
theorem tt_query {D : Nat} {p : Nat → Nat} {es : List (Nat × Int32)} {dep lv tot : Int32} {sub siz ky va : Nat → Int32} (hp : PT D p dep sub) (h : TI es lv siz ky va tot) {K : Int32 → Int32 → Int32 → Prop}
    (hN : (∀ x ∈ es, x.1 < kbh p D) → ∀ lf sl, K 0 lf sl) (hS : ∀ e, LA es (kbh p D) e → ∀ lf sl, K e.2 lf sl) : X0_query_w dep sub lv siz ky va K := by
  unfold X0_query_w
  refine keyBehind_ok hp h (fun hx lf sl => ⟨fun h => absurd rfl h, fun _ => hN hx lf sl⟩) (fun e he lf sl hi hv => ⟨fun _ => ⟨hi, by rw [hv]; exact hS e he lf sl⟩, fun hh => ?_⟩)
  have := h.bound e he.1
  rw [kEnd, nI_eq (by omega) (by omega)] at hh
  omega
theorem tt_first {D : Nat} {p : Nat → Nat} {es : List (Nat × Int32)} {dep lv tot lf sl : Int32} {sub siz ky va : Nat → Int32} (hp : PT D p dep sub) (h : TI es lv siz ky va tot) {K : Int32 → Int32 → Int32 → Prop}
    (h3 : D = 3 → K (-100) lf sl) (hN : D < 3 → (∀ x ∈ es, kbh p D ≤ x.1 → eof p D ≤ x.1) → ∀ lf sl, K (-100) lf sl) (hS : D < 3 → ∀ e, LA es (kbh p D) e → e.1 < eof p D → ∀ lf sl, K (nI (dg e.1 D) - 51) lf sl) : X0_first_w dep sub lv siz ky lf sl K := by
  have hp' := hp
  obtain ⟨hD, rfl, hpb, hps⟩ := hp
  have hkl := kof_lt hD hpb
  unfold X0_first_w
  rw [k3, nI_ltI (by omega) (by omega)]
  refine ⟨fun hd => keyBehind_ok hp' h (fun hx lf sl => endOf_ok hD hps ?_) (fun e he lf sl hi hv => endOf_ok hD hps ?_), fun hd => h3 (by omega)⟩
  · rw [nI_leI (by omega) (by omega)]
    exact ⟨fun _ => hN hd (fun x h1 h2 => by have := hx x h1; omega) lf sl, fun h => absurd h (by omega)⟩
  · have := h.bound e he.1
    rw [nI_leI (by omega) (by omega)]
    exact ⟨fun h1 => hN hd (fun x h2 h3 => by have := he.2.2 x h2 h3; omega) lf sl, fun h1 => subscriptAt_ok (by omega) (by omega) (hS hd e he (by omega) lf sl)⟩
theorem tt_next {D : Nat} {p : Nat → Nat} {es : List (Nat × Int32)} {dep lv tot lf sl : Int32} {sub siz ky va : Nat → Int32} (hp : PT D p dep sub) (h : TI es lv siz ky va tot) {K : Int32 → Int32 → Int32 → Prop}
    (h0 : D = 0 → K (-100) lf sl) (hN : 1 ≤ D → (∀ x ∈ es, eof p D ≤ x.1 → eof p (D - 1) ≤ x.1) → ∀ lf sl, K (-100) lf sl) (hS : 1 ≤ D → ∀ e, LA es (eof p D) e → e.1 < eof p (D - 1) → ∀ lf sl, K (nI (dg e.1 (D - 1)) - 51) lf sl) : X0_next_w dep sub lv siz ky lf sl K := by
  obtain ⟨hD, rfl, hpb, hps⟩ := hp
  have hkl := kof_lt hD hpb
  have hkl1 := kof_lt (p := p) (n := D - 1) (by omega) (fun j hj => hpb j (by omega))
  unfold X0_next_w
  rw [k0, nI_eq (by omega) (by omega)]
  refine ⟨fun hd => ?_, fun hd => h0 hd⟩
  have hd1 : 1 ≤ D := by omega
  rw [k1, pk_sub hd1]
  refine endOf_ok hD hps (seekfound_ok (K := fun r lf sl => X0_endOf_w sub (nI (D - 1)) (fun r5 => (r5 ≤ r → K (-100) lf sl) ∧ (¬ r5 ≤ r → X0_subscriptAt_w r (nI (D - 1)) (fun r7 => K r7 lf sl)))) h (by omega) (fun hx lf sl => endOf_ok (by omega) (fun j hj => hps j (by omega)) ?_) (fun e he lf sl hi hv => endOf_ok (by omega) (fun j hj => hps j (by omega)) ?_))
  · rw [nI_leI (by omega) (by omega)]
    exact ⟨fun _ => hN hd1 (fun x h1 h2 => by have := hx x h1; omega) lf sl, fun h => absurd h (by omega)⟩
  · have := h.bound e he.1
    rw [nI_leI (by omega) (by omega)]
    exact ⟨fun h1 => hN hd1 (fun x h2 h3 => by have := he.2.2 x h2 h3; omega) lf sl, fun h1 => subscriptAt_ok (by omega) (by omega) (hS hd1 e he (by omega) lf sl)⟩
theorem tt_previous {D : Nat} {p : Nat → Nat} {es : List (Nat × Int32)} {dep lv tot lf sl : Int32} {sub siz ky va : Nat → Int32} (hp : PT D p dep sub) (h : TI es lv siz ky va tot) {K : Int32 → Int32 → Int32 → Prop}
    (h0 : D = 0 → K (-100) lf sl) (hN : 1 ≤ D → (∀ x ∈ es, x.1 < kof p D → x.1 < kof p (D - 1) + un (D - 1)) → ∀ lf sl, K (-100) lf sl) (hS : 1 ≤ D → ∀ e, GB es (kof p D) e → kof p (D - 1) + un (D - 1) ≤ e.1 → ∀ lf sl, K (nI (dg e.1 (D - 1)) - 51) lf sl) : X0_previous_w dep sub lv siz ky lf sl K := by
  obtain ⟨hD, rfl, hpb, hps⟩ := hp
  have hkl := kof_lt hD hpb
  have hkl1 := kof_lt (p := p) (n := D - 1) (by omega) (fun j hj => hpb j (by omega))
  have hun : un (D - 1) ≤ 16384 := by
    match D with
    | 0 => simp [un]
    | 1 => simp [un]
    | 2 => simp [un]
    | n + 3 => simp [un]
  have hTI := h
  obtain ⟨h60, htot, LL, hLL, hT, hW⟩ := h
  unfold X0_previous_w
  rw [k0, nI_eq (by omega) (by omega)]
  refine ⟨fun hd => ?_, fun hd => h0 hd⟩
  have hd1 : 1 ≤ D := by omega
  rw [k1, pk_sub hd1]
  refine keyOf_ok hD hps (keyBefore_ok hT hW (by omega) (fun hx lf sl => keyOf_ok (by omega) (fun j hj => hps j (by omega)) (unit_ok (by omega) ?_)) (fun e he hek hmax lf sl => keyOf_ok (by omega) (fun j hj => hps j (by omega)) (unit_ok (by omega) ?_)))
  · rw [nI_add]
    refine ⟨fun h1 => ?_, fun _ => hN hd1 (fun x h1 h2 => ?_) lf sl⟩
    · have : ¬ nI (kof p (D - 1) + un (D - 1)) ≤ -1 := by
        rw [Int32.le_iff_toInt_le, nI_toInt (by omega)]
        have : (-1 : Int32).toInt = -1 := by decide
        omega
      exact absurd h1 this
    · rw [← hLL] at h1
      have := hx x h1
      omega
  · rw [hLL] at he hmax
    have := hTI.bound e he
    rw [nI_add, nI_leI (by omega) (by omega)]
    refine ⟨fun h1 => subscriptAt_ok (by omega) (by omega) (hS hd1 e ⟨he, hek, hmax⟩ h1 lf sl), fun h1 => hN hd1 (fun x h2 h3 => ?_) lf sl⟩
    have := hmax x h2 h3
    omega
theorem tt_before {D : Nat} {p : Nat → Nat} {es : List (Nat × Int32)} {dep lv tot : Int32} {sub siz ky va : Nat → Int32} (hp : PT D p dep sub) (h : TI es lv siz ky va tot) {K : Int32 → Int32 → Int32 → Prop}
    (hK : ∀ lf sl, K (nI (es.countP (fun e => decide (e.1 < kof p D)))) lf sl) : X0_before_w dep sub lv siz ky K := by
  obtain ⟨hD, rfl, hpb, hps⟩ := hp
  have hkl := kof_lt hD hpb
  obtain ⟨h60, rfl, LL, rfl, hT, hW⟩ := h
  unfold X0_before_w
  refine keyOf_ok hD hps (seek_ok hT hW (by omega) (fun X u w Y hZ => ?_))
  obtain ⟨hl, hl32, hl8, hbd⟩ := hW.here hZ.1
  refine ⟨fun x2 x3 => ∃ i, x3 = nI i ∧ i ≤ X.length ∧ x2 = nI (u.length + (X.take i).flatten.length), fun _ x3 => 32 - x3.toNatClampNeg, ⟨0, rfl, by omega, by simp⟩, ?_⟩
  rintro x2 x3 ⟨i, rfl, hi, rfl⟩
  simp (disch := omega) only [nI_leI, nI_clamp, k1, nI_add]
  refine ⟨fun h => ?_, fun h => ?_⟩
  · obtain rfl : i = X.length := by omega
    rw [List.take_length]
    have : LL.flatten.countP (fun e => decide (e.1 < kof p D)) = u.length + X.flatten.length := by
      rw [hZ.flat, List.countP_append, List.countP_eq_length.mpr (fun e he => by have := hZ.2.1 e he; simpa using this), List.countP_eq_zero.mpr (fun e he => by have := hZ.2.2.1 e he; simp; omega), List.length_append]
      omega
    rw [← this]
    exact hK _ _
  · obtain ⟨c, hc⟩ := ix_get (l := X) (i := i) (by omega)
    have hsz := (hT.2 i c (by rw [hZ.1]; exact ixL hc)).1
    rw [hsz, nI_add]
    refine ⟨vin (by omega) (by omega), ⟨i + 1, rfl, by omega, ?_⟩, by omega⟩
    rw [take_snoc hc]
    simp only [List.flatten_append, List.flatten_cons, List.flatten_nil, List.append_nil, List.length_append]
    congr 1
    omega
theorem tt_value {D : Nat} {p : Nat → Nat} {es : List (Nat × Int32)} {dep lv tot lf sl : Int32} {sub siz ky va : Nat → Int32} (hp : PT D p dep sub) (h : TI es lv siz ky va tot) {K : Int32 → Int32 → Int32 → Prop}
    (h0 : D = 0 → K 0 lf sl) (hA : 1 ≤ D → (∀ e ∈ es, e.1 ≠ kof p D) → ∀ lf sl, K 0 lf sl) (hS : 1 ≤ D → ∀ v, (kof p D, v) ∈ es → ∀ lf sl, K v lf sl) : X0_value_w dep sub lv siz ky va lf sl K := by
  obtain ⟨hD, rfl, hpb, hps⟩ := hp
  have hkl := kof_lt hD hpb
  obtain ⟨h60, rfl, LL, rfl, hT, hW⟩ := h
  unfold X0_value_w
  rw [k0, nI_eq (by omega) (by omega)]
  refine ⟨fun hd => keyOf_ok hD hps (present_ok hT hW (by omega) (fun X u v w Y hZ => ⟨fun h => absurd h (by decide), fun _ => ?_⟩) (fun X u w Y hZ hab => ⟨fun _ => hA (by omega) hab _ _, fun h => absurd rfl h⟩)), fun hd => h0 hd⟩
  obtain ⟨hl, hl32, hl8, hbd⟩ := hW.here hZ.1
  rw [List.length_append, List.length_cons] at hl8
  simp (disch := omega) only [k8, pk_mul, nI_add, nI_clamp, ((hT.here hZ.1).2 u.length _ zip_get).2]
  exact ⟨vin (by omega) (by omega), hS (by omega) v (by rw [hZ.flat]; simp) _ _⟩
theorem tt_data {D : Nat} {p : Nat → Nat} {es : List (Nat × Int32)} {dep lv tot : Int32} {sub siz ky va : Nat → Int32} (hp : PT D p dep sub) (h : TI es lv siz ky va tot) {K : Int32 → Int32 → Int32 → Prop}
    (hK : ∀ x, ((x = 10 ∧ ∃ e ∈ es, kbh p D ≤ e.1 ∧ e.1 < eof p D) ∨ (x = 0 ∧ ∀ e ∈ es, kbh p D ≤ e.1 → ¬ e.1 < eof p D)) → ((D = 0 ∨ ∀ e ∈ es, e.1 ≠ kof p D) → ∀ lf sl, K x lf sl) ∧ ((1 ≤ D ∧ ∃ e ∈ es, e.1 = kof p D) → ∀ lf sl, K (x + 1) lf sl)) : X0_data_w dep sub lv siz ky K := by
  have hp' := hp
  have hTI := h
  obtain ⟨hD, rfl, hpb, hps⟩ := hp
  have hkl := kof_lt hD hpb
  unfold X0_data_w
  have hrest : ∀ (r lf1 sl1 : Int32), ((∃ e, LA es (kbh p D) e ∧ r = nI e.1) ∨ ((∀ x ∈ es, x.1 < kbh p D) ∧ r = nI 2097152)) → ∃ (J2 : Int32 → Prop), (∀ (x2_2 : Int32), J2 x2_2 → (((¬ nI D = 0 → (X0_keyOf_w sub (nI D) (fun (r_4 : Int32) => X0_present_w lv siz ky r_4 (fun (r_5 : Int32) (lf_5 : Int32) (sl_5 : Int32) => ((r_5 = 0 → (K x2_2 lf_5 sl_5)) ∧ (¬ r_5 = 0 → (K (x2_2 + 1) lf_5 sl_5))))))) ∧ (nI D = 0 → (K x2_2 lf1 sl1))))) ∧ (X0_endOf_w sub (nI D) (fun (r_7 : Int32) => ((r_7 ≤ r → (J2 0)) ∧ (¬ r_7 ≤ r → (J2 10))))) := by
    intro r lf1 sl1 hr
    refine ⟨fun x => (x = 10 ∧ ∃ e ∈ es, kbh p D ≤ e.1 ∧ e.1 < eof p D) ∨ (x = 0 ∧ ∀ e ∈ es, kbh p D ≤ e.1 → ¬ e.1 < eof p D), ?_, endOf_ok hD hps ?_⟩
    · intro x hx
      have hKx := hK x hx
      obtain ⟨h60, rfl, LL, rfl, hT, hW⟩ := h
      rw [k0, nI_eq (by omega) (by omega)]
      refine ⟨fun hd => keyOf_ok hD hps (present_ok hT hW (by omega) (fun X u v w Y hZ => ⟨fun h => absurd h (by decide), fun _ => hKx.2 ⟨by omega, (kof p D, v), by rw [hZ.flat]; simp, rfl⟩ _ _⟩) (fun X u w Y hZ hab => ⟨fun _ => hKx.1 (Or.inr hab) _ _, fun h => absurd rfl h⟩)), fun hd => hKx.1 (Or.inl hd) _ _⟩
    · rcases hr with ⟨e, he, rfl⟩ | ⟨hx, rfl⟩
      · have := hTI.bound e he.1
        rw [nI_leI (by omega) (by omega)]
        exact ⟨fun h1 => Or.inr ⟨rfl, fun x h2 h3 => by have := he.2.2 x h2 h3; omega⟩, fun h1 => Or.inl ⟨rfl, e, he.1, he.2.1, by omega⟩⟩
      · rw [nI_leI (by omega) (by omega)]
        exact ⟨fun _ => Or.inr ⟨rfl, fun x h2 h3 => by have := hx x h2; omega⟩, fun h => absurd h (by omega)⟩
  exact keyBehind_ok hp' hTI (fun hx lf sl => hrest _ lf sl (Or.inr ⟨hx, rfl⟩)) (fun e he lf sl _ _ => hrest _ lf sl (Or.inl ⟨e, he, rfl⟩))
theorem tt_set {D : Nat} {p : Nat → Nat} {es : List (Nat × Int32)} {dep lv tot lf sl : Int32} {sub siz ky va pk pv : Nat → Int32} (hp : PT D p dep sub) (h : TI es lv siz ky va tot) {z : Int32} {K : Int32 → Int32 → (Nat → Int32) → (Nat → Int32) → (Nat → Int32) → Int32 → Int32 → Int32 → (Nat → Int32) → (Nat → Int32) → Prop}
    (h0 : D = 0 → K (-3) lv siz ky va tot lf sl pk pv) (hF : 1 ≤ D → (∀ e ∈ es, e.1 ≠ kof p D) → es.length = 60 → ∀ lf sl, K (-2) lv siz ky va tot lf sl pk pv)
    (hS : 1 ≤ D → ∀ r es' lv' siz' ky' va' tot' lf' sl' pk' pv', (r = 1 ∧ (∃ e ∈ es, e.1 = kof p D)) ∨ (r = 0 ∧ (∀ e ∈ es, e.1 ≠ kof p D) ∧ es.length < 60) → TI es' lv' siz' ky' va' tot' → (∀ x, x ∈ es' ↔ x = (kof p D, z) ∨ (x ∈ es ∧ x.1 ≠ kof p D)) → K r lv' siz' ky' va' tot' lf' sl' pk' pv') : X0_set_w dep sub lv siz ky va tot lf sl pk pv z K := by
  have hTI := h
  obtain ⟨hD, rfl, hpb, hps⟩ := hp
  have hkl := kof_lt hD hpb
  obtain ⟨h60, htot, LL, hLL, hT, hW⟩ := h
  unfold X0_set_w
  rw [k0, nI_eq (by omega) (by omega)]
  refine ⟨fun hd => keyOf_ok hD hps (present_ok hT hW (by omega) (fun X u v w Y hZ => ⟨True, fun _ => ?_, fun _ => trivial, fun h => absurd h (by decide)⟩) (fun X u w Y hZ hab => ⟨es.length < 60, fun hJ => ?_, fun h => absurd rfl h, fun _ => ?_⟩)), fun hd => h0 hd⟩
  · have hin : (kof p D, v) ∈ es := by rw [← hLL, hZ.flat]; simp
    refine put_ok hTI (by omega) (fun hab => absurd rfl (hab _ hin)) (fun es' lv' siz' ky' va' tot' lf' sl' pk' pv' hTI' hmem _ _ => ⟨fun h => absurd h (by decide), fun _ => hS (by omega) 1 es' _ _ _ _ _ _ _ _ _ (Or.inl ⟨rfl, _, hin, rfl⟩) hTI' hmem⟩)
  · rw [hLL] at hab
    refine put_ok hTI (by omega) (fun _ => hJ) (fun es' lv' siz' ky' va' tot' lf' sl' pk' pv' hTI' hmem _ _ => ⟨fun _ => hS (by omega) _ es' _ _ _ _ _ _ _ _ _ (Or.inr ⟨rfl, hab, hJ⟩) hTI' hmem, fun h => absurd rfl h⟩)
  · rw [hLL] at hab
    rw [htot, k60, nI_ltI (by omega) (by omega), ← htot]
    exact ⟨fun h => h, fun h => hF (by omega) hab (by omega) _ _⟩
theorem tt_increment {D : Nat} {p : Nat → Nat} {es : List (Nat × Int32)} {dep lv tot lf sl : Int32} {sub siz ky va pk pv : Nat → Int32} (hp : PT D p dep sub) (h : TI es lv siz ky va tot) {z : Int32} {K : Int32 → Int32 → (Nat → Int32) → (Nat → Int32) → (Nat → Int32) → Int32 → Int32 → Int32 → (Nat → Int32) → (Nat → Int32) → Prop}
    (h0 : D = 0 → K (-3) lv siz ky va tot lf sl pk pv) (hF : 1 ≤ D → (∀ e ∈ es, e.1 ≠ kof p D) → es.length = 60 → ∀ lf sl, K (-2) lv siz ky va tot lf sl pk pv)
    (hS : 1 ≤ D → ∀ r es' lv' siz' ky' va' tot' lf' sl' pk' pv', (∃ v, r = v + z ∧ (kof p D, v) ∈ es) ∨ (r = z ∧ (∀ e ∈ es, e.1 ≠ kof p D) ∧ es.length < 60) → TI es' lv' siz' ky' va' tot' → (∀ x, x ∈ es' ↔ x = (kof p D, r) ∨ (x ∈ es ∧ x.1 ≠ kof p D)) → K r lv' siz' ky' va' tot' lf' sl' pk' pv') : X0_increment_w dep sub lv siz ky va tot lf sl pk pv z K := by
  have hTI := h
  obtain ⟨hD, rfl, hpb, hps⟩ := hp
  have hkl := kof_lt hD hpb
  obtain ⟨h60, htot, LL, hLL, hT, hW⟩ := h
  unfold X0_increment_w
  rw [k0, nI_eq (by omega) (by omega)]
  refine ⟨fun hd => keyOf_ok hD hps (present_ok hT hW (by omega) (fun X u v w Y hZ => ⟨True, fun _ => ⟨fun h => absurd h (by decide), fun _ => ?_⟩, fun _ => trivial, fun h => absurd h (by decide)⟩) (fun X u w Y hZ hab => ⟨es.length < 60, fun hJ => ⟨fun _ => ?_, fun h => absurd rfl h⟩, fun h => absurd rfl h, fun _ => ?_⟩)), fun hd => h0 hd⟩
  · have hin : (kof p D, v) ∈ es := by rw [← hLL, hZ.flat]; simp
    obtain ⟨hl, hl32, hl8, hbd⟩ := hW.here hZ.1
    rw [List.length_append, List.length_cons] at hl8
    simp (disch := omega) only [k8, pk_mul, nI_add, nI_clamp, ((hT.here hZ.1).2 u.length _ zip_get).2]
    exact ⟨vin (by omega) (by omega), put_ok hTI (by omega) (fun hab => absurd rfl (hab _ hin)) (fun es' lv' siz' ky' va' tot' lf' sl' pk' pv' hTI' hmem _ _ => hS (by omega) _ es' _ _ _ _ _ _ _ _ _ (Or.inl ⟨v, rfl, hin⟩) hTI' hmem)⟩
  · rw [hLL] at hab
    exact put_ok hTI (by omega) (fun _ => hJ) (fun es' lv' siz' ky' va' tot' lf' sl' pk' pv' hTI' hmem _ _ => hS (by omega) _ es' _ _ _ _ _ _ _ _ _ (Or.inr ⟨rfl, hab, hJ⟩) hTI' hmem)
  · rw [hLL] at hab
    rw [htot, k60, nI_ltI (by omega) (by omega), ← htot]
    exact ⟨fun h => h, fun h => hF (by omega) hab (by omega) _ _⟩
end
section
/-! keys and digits -/
def vk (k : Nat) : Prop := k < 2097152 ∧ 1 ≤ dg k 0 ∧ dg k 0 ≤ 101 ∧ dg k 1 ≤ 101 ∧ dg k 2 ≤ 101 ∧ (dg k 1 = 0 → dg k 2 = 0)
def kl (k : Nat) : Nat := if dg k 1 = 0 then 1 else if dg k 2 = 0 then 2 else 3
theorem kl_cases (k : Nat) : (kl k = 1 ∧ dg k 1 = 0) ∨ (kl k = 2 ∧ dg k 1 ≠ 0 ∧ dg k 2 = 0) ∨ (kl k = 3 ∧ dg k 1 ≠ 0 ∧ dg k 2 ≠ 0) := by
  unfold kl
  by_cases h1 : dg k 1 = 0
  · rw [if_pos h1]; exact Or.inl ⟨rfl, h1⟩
  · rw [if_neg h1]
    by_cases h2 : dg k 2 = 0
    · rw [if_pos h2]; exact Or.inr (Or.inl ⟨rfl, h1, h2⟩)
    · rw [if_neg h2]; exact Or.inr (Or.inr ⟨rfl, h1, h2⟩)
theorem kl_le (k : Nat) : 1 ≤ kl k ∧ kl k ≤ 3 := by
  rcases kl_cases k with h | h | h <;> omega
theorem dg_lt (k j : Nat) : dg k j < 128 := by
  match j with
  | 0 => exact Nat.mod_lt _ (by omega)
  | 1 => exact Nat.mod_lt _ (by omega)
  | j + 2 => exact Nat.mod_lt _ (by omega)
theorem dg_kl {k j : Nat} (h : vk k) (hj : j < 3) : j < kl k ↔ dg k j ≠ 0 := by
  obtain ⟨h0, h1, h2, h3, h4, h5⟩ := h
  have hc := kl_cases k
  match j, hj with
  | 0, _ => have := kl_le k; omega
  | 1, _ => omega
  | 2, _ => omega
theorem dg_sum {k : Nat} (h : k < 2097152) : k = dg k 0 * 16384 + dg k 1 * 128 + dg k 2 := by
  simp only [dg]; omega
theorem dg_of {a b c : Nat} (ha : a < 128) (hb : b < 128) (hc : c < 128) : dg (a * 16384 + b * 128 + c) 0 = a ∧ dg (a * 16384 + b * 128 + c) 1 = b ∧ dg (a * 16384 + b * 128 + c) 2 = c := by
  simp only [dg]; omega
theorem dg_ext {k k' : Nat} (h : k < 2097152) (h' : k' < 2097152) (hd : ∀ j, j < 3 → dg k j = dg k' j) : k = k' := by
  rw [dg_sum h, dg_sum h', hd 0 (by omega), hd 1 (by omega), hd 2 (by omega)]
theorem dg_lex {k k' j : Nat} (h : k < 2097152) (h' : k' < 2097152) (hj : j < 3) (hd : ∀ i, i < j → dg k i = dg k' i) (hlt : dg k j < dg k' j) : k < k' := by
  have e1 := dg_sum h
  have e2 := dg_sum h'
  have b1 := dg_lt k 1
  have b2 := dg_lt k 2
  have b3 := dg_lt k' 1
  have b4 := dg_lt k' 2
  match j, hj with
  | 0, _ => omega
  | 1, _ => have := hd 0 (by omega); omega
  | 2, _ => have := hd 0 (by omega); have := hd 1 (by omega); omega
/-- the first n digits are the pointer's: between its key and its end -/
theorem bg_iff {p : Nat → Nat} {n k : Nat} (hn : n ≤ 3) (hp : ∀ j, j < n → 1 ≤ p j ∧ p j ≤ 101) (hk : k < 2097152) : (∀ j, j < n → dg k j = p j) ↔ kof p n ≤ k ∧ k < eof p n := by
  have e1 := dg_sum hk
  have b1 := dg_lt k 1
  have b2 := dg_lt k 2
  match n, hn with
  | 0, _ => simp [kof, eof]; omega
  | 1, _ =>
    have h0 := hp 0 (by omega)
    simp only [kof, eof, un]
    constructor
    · intro h; have := h 0 (by omega); simp; omega
    · intro h j hj; obtain rfl : j = 0 := by omega
      simp at h; omega
  | 2, _ =>
    have h0 := hp 0 (by omega)
    have h1 := hp 1 (by omega)
    simp only [kof, eof, un]
    constructor
    · intro h; have := h 0 (by omega); have := h 1 (by omega); simp; omega
    · intro h j hj
      simp at h
      rcases (show j = 0 ∨ j = 1 by omega) with rfl | rfl <;> omega
  | 3, _ =>
    have h0 := hp 0 (by omega)
    have h1 := hp 1 (by omega)
    have h2 := hp 2 (by omega)
    simp only [kof, eof, un]
    constructor
    · intro h; have := h 0 (by omega); have := h 1 (by omega); have := h 2 (by omega); simp; omega
    · intro h j hj
      simp at h
      rcases (show j = 0 ∨ j = 1 ∨ j = 2 by omega) with rfl | rfl | rfl <;> omega
/-- the pointer's key: its digits -/
theorem dg_kof {p : Nat → Nat} {D : Nat} (hD : D ≤ 3) (hp : ∀ j, j < D → 1 ≤ p j ∧ p j ≤ 101) : ∀ j, j < 3 → dg (kof p D) j = if j < D then p j else 0 := by
  intro j hj
  match D, hD with
  | 0, _ => rw [if_neg (by omega)]; match j, hj with
    | 0, _ => simp [kof, dg]
    | 1, _ => simp [kof, dg]
    | 2, _ => simp [kof, dg]
  | 1, _ =>
    have h0 := hp 0 (by omega)
    have := dg_of (a := p 0) (b := 0) (c := 0) (by omega) (by omega) (by omega)
    rw [show kof p 1 = p 0 * 16384 + 0 * 128 + 0 by simp [kof]]
    rcases (show j = 0 ∨ j = 1 ∨ j = 2 by omega) with rfl | rfl | rfl
    · rw [if_pos (by omega)]; exact this.1
    · rw [if_neg (by omega)]; exact this.2.1
    · rw [if_neg (by omega)]; exact this.2.2
  | 2, _ =>
    have h0 := hp 0 (by omega)
    have h1 := hp 1 (by omega)
    have := dg_of (a := p 0) (b := p 1) (c := 0) (by omega) (by omega) (by omega)
    rw [show kof p 2 = p 0 * 16384 + p 1 * 128 + 0 by simp [kof]]
    rcases (show j = 0 ∨ j = 1 ∨ j = 2 by omega) with rfl | rfl | rfl
    · rw [if_pos (by omega)]; exact this.1
    · rw [if_pos (by omega)]; exact this.2.1
    · rw [if_neg (by omega)]; exact this.2.2
  | 3, _ =>
    have h0 := hp 0 (by omega)
    have h1 := hp 1 (by omega)
    have h2 := hp 2 (by omega)
    have := dg_of (a := p 0) (b := p 1) (c := p 2) (by omega) (by omega) (by omega)
    rw [show kof p 3 = p 0 * 16384 + p 1 * 128 + p 2 by simp [kof]]
    rcases (show j = 0 ∨ j = 1 ∨ j = 2 by omega) with rfl | rfl | rfl
    · rw [if_pos (by omega)]; exact this.1
    · rw [if_pos (by omega)]; exact this.2.1
    · rw [if_pos (by omega)]; exact this.2.2
theorem vk_kof {p : Nat → Nat} {D : Nat} (hD1 : 1 ≤ D) (hD : D ≤ 3) (hp : ∀ j, j < D → 1 ≤ p j ∧ p j ≤ 101) : vk (kof p D) ∧ kl (kof p D) = D := by
  have hd := dg_kof hD hp
  have h0 := hd 0 (by omega)
  have h1 := hd 1 (by omega)
  have h2 := hd 2 (by omega)
  have hlt := (kof_lt1 hD hp)
  have p0 := hp 0 (by omega)
  have hc := kl_cases (kof p D)
  rw [if_pos (by omega)] at h0
  have g1 : 1 < D → dg (kof p D) 1 = p 1 ∧ 1 ≤ p 1 ∧ p 1 ≤ 101 := fun h => ⟨by rw [h1, if_pos h], hp 1 h⟩
  have g2 : ¬ 1 < D → dg (kof p D) 1 = 0 := fun h => by rw [h1, if_neg h]
  have g3 : 2 < D → dg (kof p D) 2 = p 2 ∧ 1 ≤ p 2 ∧ p 2 ≤ 101 := fun h => ⟨by rw [h2, if_pos h], hp 2 h⟩
  have g4 : ¬ 2 < D → dg (kof p D) 2 = 0 := fun h => by rw [h2, if_neg h]
  refine ⟨⟨hlt, by omega, by omega, ?_, ?_, ?_⟩, ?_⟩
  · by_cases h : 1 < D
    · have := g1 h; omega
    · have := g2 h; omega
  · by_cases h : 2 < D
    · have := g3 h; omega
    · have := g4 h; omega
  · intro h
    by_cases h' : 2 < D
    · have := g1 (by omega); omega
    · exact g4 h'
  · by_cases h : 1 < D
    · have := g1 h
      by_cases h' : 2 < D
      · have := g3 h'; omega
      · have := g4 h'; omega
    · have := g2 h; omega
/-- the node of the pointer itself -/
theorem here_iff {p : Nat → Nat} {D k : Nat} (hD1 : 1 ≤ D) (hD : D ≤ 3) (hp : ∀ j, j < D → 1 ≤ p j ∧ p j ≤ 101) (hk : vk k) : (kl k = D ∧ kof p D ≤ k ∧ k < eof p D) ↔ k = kof p D := by
  constructor
  · rintro ⟨h1, h2⟩
    have h3 := (bg_iff hD hp hk.1).mpr h2
    refine dg_ext hk.1 (kof_lt1 hD hp) (fun j hj => ?_)
    rw [dg_kof hD hp j hj]
    by_cases h : j < D
    · rw [if_pos h]; exact h3 j h
    · rw [if_neg h]
      have := dg_kl hk hj
      rcases Nat.eq_zero_or_pos (dg k j) with h4 | h4
      · exact h4
      · exact absurd (this.mpr (by omega)) (by omega)
  · rintro rfl
    exact ⟨(vk_kof hD1 hD hp).2, Nat.le_refl _, (kof_lt hD hp).1⟩
/-- below the pointer's node: a subscript more -/
theorem below_iff {p : Nat → Nat} {D k : Nat} (hD : D ≤ 3) (hp : ∀ j, j < D → 1 ≤ p j ∧ p j ≤ 101) (hk : vk k) : ((kof p D ≤ k ∧ k < eof p D) ∧ D < kl k) ↔ kbh p D ≤ k ∧ k < eof p D := by
  unfold kbh
  by_cases h0 : D = 0
  · subst h0
    have := kl_le k
    have := hk.1
    simp [kof, eof]; omega
  · rw [if_neg h0]
    have hi := here_iff (by omega) hD hp hk
    constructor
    · rintro ⟨⟨h1, h2⟩, h3⟩
      refine ⟨?_, h2⟩
      rcases Nat.lt_or_ge (kof p D) k with h | h
      · exact h
      · have := hi.mpr (by omega); omega
    · rintro ⟨h1, h2⟩
      refine ⟨⟨by omega, h2⟩, ?_⟩
      have h3 := (bg_iff hD hp hk.1).mpr ⟨by omega, h2⟩
      rcases Nat.lt_or_ge D (kl k) with h | h
      · exact h
      · have h4 : kl k = D := by
          have hD1 := h3 (D - 1) (by omega)
          have := (hp (D - 1) (by omega)).1
          have := (dg_kl (j := D - 1) hk (by omega)).mpr (by omega)
          omega
        have := hi.mp ⟨h4, by omega, h2⟩
        omega
theorem behind_iff {p : Nat → Nat} {D k : Nat} (hk : vk k) : kbh p D ≤ k ↔ kof p D < k := by
  unfold kbh
  by_cases h0 : D = 0
  · subst h0
    rw [if_pos rfl]
    have h1 := hk.2.1
    have : 0 < k := by
      rcases Nat.eq_zero_or_pos k with h | h
      · subst h; simp [dg] at h1
      · exact h
    simp [kof]; exact this
  · rw [if_neg h0]
    exact Iff.rfl
theorem dgI {a b : Nat} (ha : a < 1000) (hb : b < 1000) : (nI a - 51 = nI b - 51 ↔ a = b) ∧ (nI a - 51 < nI b - 51 ↔ a < b) ∧ (nI a - 51 ≤ nI b - 51 ↔ a ≤ b) := by
  have e1 : (nI a - 51).toInt = (a : Int) - 51 := pk_sub_toInt (b := 51) (by omega) (by omega)
  have e2 : (nI b - 51).toInt = (b : Int) - 51 := pk_sub_toInt (b := 51) (by omega) (by omega)
  refine ⟨?_, ?_, ?_⟩
  · rw [← Int32.toInt_inj, e1, e2]; omega
  · rw [Int32.lt_iff_toInt_lt, e1, e2]; omega
  · rw [Int32.le_iff_toInt_le, e1, e2]; omega
end
section
/-! the reference: a list of nodes with values, in no order -/
def RE (li le vs : Nat → Int32) (i : Nat) (e : Nat × Int32) : Prop := le i = nI (kl e.1) ∧ vs i = e.2 ∧ ∀ j, j < kl e.1 → li (i * 3 + j) = nI (dg e.1 j) - 51
def MI (ms : List (Nat × Int32)) (li le vs : Nat → Int32) (nd : Int32) : Prop :=
  nd = nI ms.length ∧ ms.length ≤ 60 ∧ (∀ i e, ms[i]? = some e → RE li le vs i e) ∧ (∀ e ∈ ms, vk e.1) ∧ ms.Pairwise (fun a b => a.1 ≠ b.1)
def PM (D : Nat) (p : Nat → Nat) (dp : Int32) (po : Nat → Int32) : Prop := D ≤ 3 ∧ dp = nI D ∧ (∀ j, j < D → 1 ≤ p j ∧ p j ≤ 101) ∧ ∀ j, j < D → po j = nI (p j) - 51
theorem isSub_yes {z : Int32} (h : okS z) {K : Int32 → Prop} (hK : K 1) : X1_isSubscript_w z K := by
  unfold X1_isSubscript_w
  exact ⟨fun h1 => absurd (Or.inl h1) h, fun _ => ⟨fun h1 => absurd (Or.inr h1) h, fun _ => hK⟩⟩
theorem isSub_no {z : Int32} (h : ¬ okS z) {K : Int32 → Prop} (hK : K 0) : X1_isSubscript_w z K := by
  unfold X1_isSubscript_w
  refine ⟨fun _ => hK, fun h1 => ⟨fun _ => hK, fun h2 => absurd (fun h3 => ?_) h⟩⟩
  rcases h3 with h3 | h3
  · exact h1 h3
  · exact h2 h3
theorem begins_ok {p : Nat → Nat} {n i : Nat} {e : Nat × Int32} {li le vs po : Nat → Int32} (hn : n ≤ 3) (hp : ∀ j, j < n → 1 ≤ p j ∧ p j ≤ 101) (hpo : ∀ j, j < n → po j = nI (p j) - 51) (hi : i < 60) (hre : RE li le vs i e) (hv : vk e.1) {K : Int32 → Prop}
    (h1 : rg (kof p n) (eof p n) e = true → K 1) (h0 : rg (kof p n) (eof p n) e = false → K 0) : X1_begins_w li le po (nI i) (nI n) K := by
  have hb := bg_iff hn hp hv.1
  have hkl := kl_le e.1
  have hf : (∃ j, j < n ∧ dg e.1 j ≠ p j) → rg (kof p n) (eof p n) e = false := by
    rintro ⟨j, hj, hne⟩
    cases hr : rg (kof p n) (eof p n) e with
    | false => rfl
    | true => exact absurd (hb.mpr (rg_iff.mp hr) j hj) hne
  unfold X1_begins_w
  rw [nI_clamp (by omega), hre.1, nI_leI (by omega) (by omega)]
  refine ⟨vin hi (by omega), fun hl => ?_, fun hl => h0 (hf ⟨n - 1, by omega, ?_⟩)⟩
  · refine ⟨fun x => ∃ j, x = nI j ∧ j ≤ n ∧ ∀ j', j' < j → dg e.1 j' = p j', fun x => 3 - x.toNatClampNeg, ⟨0, rfl, by omega, by omega⟩, ?_⟩
    rintro x ⟨j, rfl, hj, hall⟩
    simp (disch := omega) only [nI_leI, k3, k1, pk_mul, nI_add, nI_clamp]
    refine ⟨fun h => h1 (rg_iff.mpr (hb.mp (fun j' hj' => hall j' (by omega)))), fun h => ⟨vin (by omega) (by omega), vin (by omega) (by omega), ?_⟩⟩
    have hpj := hp j (by omega)
    have hdl := dg_lt e.1 j
    rw [hre.2.2 j (by omega), hpo j (by omega), (dgI (by omega) (by omega)).1]
    refine ⟨fun h2 => ⟨⟨j + 1, rfl, by omega, fun j' hj' => ?_⟩, by omega⟩, fun h2 => h0 (hf ⟨j, by omega, h2⟩)⟩
    by_cases hjj : j' = j
    · rw [hjj]; exact h2
    · exact hall j' (by omega)
  · have := (dg_kl (j := n - 1) hv (by omega))
    have h2 := (hp (n - 1) (by omega)).1
    intro h3
    have := this.mpr (by omega)
    omega
theorem here_ok {D : Nat} {p : Nat → Nat} {ms : List (Nat × Int32)} {li le vs po : Nat → Int32} {nd dp : Int32} (hp : PM D p dp po) (h : MI ms li le vs nd) {K : Int32 → Prop}
    (h1 : ∀ i e, ms[i]? = some e → 1 ≤ D → e.1 = kof p D → K (nI i)) (h0 : (D = 0 ∨ ∀ e ∈ ms, e.1 ≠ kof p D) → K (-1)) : X1_here_w li le nd po dp K := by
  obtain ⟨hD, rfl, hpb, hpo⟩ := hp
  obtain ⟨rfl, h60, hre, hvk, hnd⟩ := h
  unfold X1_here_w
  refine ⟨fun x => ∃ i, x = nI i ∧ i ≤ ms.length ∧ (D = 0 ∨ ∀ j e, j < i → ms[j]? = some e → e.1 ≠ kof p D), fun x => 60 - x.toNatClampNeg, ⟨0, rfl, by omega, Or.inr (by omega)⟩, ?_⟩
  rintro x ⟨i, rfl, hi, hall⟩
  simp (disch := omega) only [nI_leI, k1, nI_add, nI_clamp]
  refine ⟨fun h => h0 ?_, fun h => ?_⟩
  · rcases hall with h2 | h2
    · exact Or.inl h2
    · refine Or.inr (fun e he => ?_)
      obtain ⟨j, hj⟩ := List.mem_iff_getElem?.mp he
      exact h2 j e (by have := ix_lt hj; omega) hj
  · obtain ⟨e, he⟩ := ix_get (l := ms) (i := i) (by omega)
    have hr := hre i e he
    have hv := hvk e (ix_mem he)
    have hkl := kl_le e.1
    have hnext : (D = 0 ∨ e.1 ≠ kof p D) → (∃ i_1, nI (i + 1) = nI i_1 ∧ i_1 ≤ ms.length ∧ (D = 0 ∨ ∀ (j : Nat) (e : Nat × Int32), j < i_1 → ms[j]? = some e → e.1 ≠ kof p D)) ∧ 60 - (i + 1) < 60 - i := by
      intro hne
      refine ⟨⟨i + 1, rfl, by omega, ?_⟩, by omega⟩
      rcases hne with h2 | h2
      · exact Or.inl h2
      rcases hall with h3 | h3
      · exact Or.inl h3
      · refine Or.inr (fun j e' hj hje => ?_)
        by_cases hji : j = i
        · subst hji; rw [he] at hje; cases hje; exact h2
        · exact h3 j e' (by omega) hje
    rw [hr.1, nI_eq (by omega) (by omega)]
    refine ⟨vin (by omega) (by omega), fun h2 => hnext ?_, fun h2 => begins_ok hD hpb hpo (by omega) hr hv (fun h3 => ⟨fun h => absurd h (by decide), fun _ => h1 i e he (by omega) ?_⟩) (fun h3 => ⟨fun _ => hnext ?_, fun h => absurd rfl h⟩)⟩
    · by_cases h0' : D = 0
      · exact Or.inl h0'
      · refine Or.inr (fun h4 => h2 ?_)
        rw [h4]; exact (vk_kof (by omega) hD hpb).2
    · exact (here_iff (by omega) hD hpb hv).mp ⟨h2, rg_iff.mp h3⟩
    · refine Or.inr (fun h4 => ?_)
      have := (here_iff (by omega) hD hpb hv).mpr h4
      rw [rg_iff.mpr this.2] at h3
      cases h3
theorem RE.upd_v {li le vs : Nat → Int32} {i j : Nat} {e : Nat × Int32} {z : Int32} (h : RE li le vs i e) (hij : i ≠ j) : RE li le (upd vs j z) i e := ⟨h.1, by rw [upd_n hij]; exact h.2.1, h.2.2⟩
theorem key_uniq {ms : List (Nat × Int32)} (h : ms.Pairwise (fun a b => a.1 ≠ b.1)) {i j : Nat} {a b : Nat × Int32} (ha : ms[i]? = some a) (hb : ms[j]? = some b) (he : a.1 = b.1) : i = j := by
  rcases Nat.lt_trichotomy i j with h1 | h1 | h1
  · exact absurd he (pw_ix h ha hb h1)
  · exact h1
  · exact absurd he.symm (pw_ix h hb ha h1)
/-- a value put at a node that is there -/
theorem MI.put {ms : List (Nat × Int32)} {li le vs : Nat → Int32} {nd : Int32} (h : MI ms li le vs nd) {i : Nat} {e : Nat × Int32} (he : ms[i]? = some e) (z : Int32) : MI (ms.set i (e.1, z)) li le (upd vs i z) nd ∧ ∀ x, x ∈ ms.set i (e.1, z) ↔ x = (e.1, z) ∨ (x ∈ ms ∧ x.1 ≠ e.1) := by
  obtain ⟨h0, h60, hre, hvk, hnd⟩ := h
  have hil := ix_lt he
  refine ⟨⟨by rw [List.length_set]; exact h0, by rw [List.length_set]; exact h60, fun j x hj => ?_, fun x hx => ?_, ?_⟩, fun x => ?_⟩
  · by_cases hji : i = j
    · subst hji
      rw [List.getElem?_set_self hil] at hj
      cases hj
      have := hre i e he
      exact ⟨this.1, by rw [upd_s], this.2.2⟩
    · rw [List.getElem?_set_ne hji] at hj
      exact (hre j x hj).upd_v (by omega)
  · rcases List.mem_or_eq_of_mem_set hx with hx | hx
    · exact hvk x hx
    · rw [hx]; exact hvk e (ix_mem he)
  · rw [List.pairwise_iff_getElem]
    intro a b ha hb hab
    rw [List.length_set] at ha hb
    have key : ∀ c (hc : c < ms.length), ((ms.set i (e.1, z))[c]'(by rw [List.length_set]; exact hc)).1 = ms[c].1 := by
      intro c hc
      by_cases hci : i = c
      · subst hci
        rw [List.getElem_set_self]
        rw [(List.getElem?_eq_some_iff.mp he).2]
      · rw [List.getElem_set_ne hci]
    rw [key a ha, key b hb]
    exact List.pairwise_iff_getElem.mp hnd a b ha hb hab
  · rw [List.mem_iff_getElem?]
    constructor
    · rintro ⟨j, hj⟩
      by_cases hji : i = j
      · subst hji
        rw [List.getElem?_set_self hil] at hj
        cases hj
        exact Or.inl rfl
      · rw [List.getElem?_set_ne hji] at hj
        exact Or.inr ⟨ix_mem hj, fun hk => hji (key_uniq hnd he hj hk.symm)⟩
    · rintro (rfl | ⟨hx, hne⟩)
      · exact ⟨i, List.getElem?_set_self hil⟩
      · obtain ⟨j, hj⟩ := List.mem_iff_getElem?.mp hx
        refine ⟨j, ?_⟩
        rw [List.getElem?_set_ne ?_]
        · exact hj
        · rintro rfl
          rw [he] at hj
          cases hj
          exact hne rfl
/-- a node made -/
theorem MI.add {ms : List (Nat × Int32)} {li le vs li' le' vs' : Nat → Int32} {nd : Int32} (h : MI ms li le vs nd) {e : Nat × Int32} (hr : RE li' le' vs' ms.length e) (hold : ∀ i x, i < ms.length → RE li le vs i x → RE li' le' vs' i x) (hv : vk e.1) (hab : ∀ x ∈ ms, x.1 ≠ e.1) (hl : ms.length < 60) : MI (ms ++ [e]) li' le' vs' (nd + 1) ∧ ∀ x, x ∈ ms ++ [e] ↔ x = e ∨ (x ∈ ms ∧ x.1 ≠ e.1) := by
  obtain ⟨h0, h60, hre, hvk, hnd⟩ := h
  refine ⟨⟨by rw [h0, nI_1, List.length_append]; rfl, by rw [List.length_append]; exact hl, fun j x hj => ?_, fun x hx => ?_, ?_⟩, fun x => ?_⟩
  · rcases ix_a hj with ⟨h1, h2⟩ | ⟨h1, h2⟩ | ⟨r, h1, h2⟩
    · exact hold j x h1 (hre j x h2)
    · subst h1; subst h2; exact hr
    · simp at h2
  · rcases List.mem_append.mp hx with hx | hx
    · exact hvk x hx
    · rw [List.mem_singleton.mp hx]; exact hv
  · rw [List.pairwise_append]
    refine ⟨hnd, List.pairwise_singleton _ _, fun a ha b hb => ?_⟩
    rw [List.mem_singleton.mp hb]
    exact hab a ha
  · rw [List.mem_append, List.mem_singleton]
    constructor
    · rintro (hx | hx)
      · exact Or.inr ⟨hx, hab x hx⟩
      · exact Or.inl hx
    · rintro (hx | ⟨hx, -⟩)
      · exact Or.inr hx
      · exact Or.inl hx
theorem m_value {D : Nat} {p : Nat → Nat} {ms : List (Nat × Int32)} {li le vs po : Nat → Int32} {nd dp : Int32} (hp : PM D p dp po) (h : MI ms li le vs nd) {K : Int32 → Prop}
    (h1 : 1 ≤ D → ∀ v, (kof p D, v) ∈ ms → K v) (h0 : (D = 0 ∨ ∀ e ∈ ms, e.1 ≠ kof p D) → K 0) : X1_value_w li le vs nd po dp K := by
  unfold X1_value_w
  refine here_ok hp h (fun i e hi hd he => ⟨fun _ => ?_, fun hn => ?_⟩) (fun ha => ⟨fun hn => absurd hn (by decide), fun _ => h0 ha⟩)
  · have := ix_lt hi
    have := h.2.1
    rw [nI_clamp (by omega), (h.2.2.1 i e hi).2.1]
    refine ⟨vin (by omega) (by omega), h1 hd e.2 ?_⟩
    rw [← he]; exact ix_mem hi
  · have := ix_lt hi
    have := h.2.1
    exact absurd (nI_pos' (by omega)) hn
set_option maxHeartbeats 2000000 in
theorem m_set {D : Nat} {p : Nat → Nat} {ms : List (Nat × Int32)} {li le vs po : Nat → Int32} {nd dp : Int32} (hp : PM D p dp po) (h : MI ms li le vs nd) {z : Int32} {K : Int32 → (Nat → Int32) → (Nat → Int32) → (Nat → Int32) → Int32 → Prop}
    (h0 : D = 0 → K (-3) li le vs nd) (hF : 1 ≤ D → (∀ e ∈ ms, e.1 ≠ kof p D) → ms.length = 60 → K (-2) li le vs nd)
    (hS : 1 ≤ D → ∀ r ms' li' le' vs' nd', (r = 1 ∧ (∃ e ∈ ms, e.1 = kof p D)) ∨ (r = 0 ∧ (∀ e ∈ ms, e.1 ≠ kof p D) ∧ ms.length < 60) → MI ms' li' le' vs' nd' → (∀ x, x ∈ ms' ↔ x = (kof p D, z) ∨ (x ∈ ms ∧ x.1 ≠ kof p D)) → K r li' le' vs' nd') : X1_set_w li le vs nd po dp z K := by
  have hMI := h
  obtain ⟨hnd0, h60, hre, hvk, hnd⟩ := h
  have hp' := hp
  obtain ⟨hD, rfl, hpb, hpo⟩ := hp
  unfold X1_set_w
  rw [k0, nI_eq (by omega) (by omega)]
  refine ⟨fun hd => here_ok hp' hMI (fun i e hi hd1 he => ?_) (fun ha => ?_), fun hd => h0 hd⟩
  · have hil := ix_lt hi
    refine ⟨True, fun _ => ⟨fun hn => absurd hn (by rw [nI_ltI (by omega) (by omega)]; omega), fun _ => ?_⟩, fun _ => trivial, fun hn => absurd (nI_pos' (by omega)) hn⟩
    rw [nI_clamp (by omega)]
    obtain ⟨hMI', hmem⟩ := hMI.put hi z
    rw [he] at hMI' hmem
    exact ⟨vin (by omega) (by omega), hS hd1 1 _ _ _ _ _ (Or.inl ⟨rfl, e, ix_mem hi, he⟩) hMI' hmem⟩
  · have hab : ∀ e ∈ ms, e.1 ≠ kof p D := by
      rcases ha with ha | ha
      · omega
      · exact ha
    refine ⟨ms.length < 60, fun hJ => ⟨fun _ => ?_, fun hn => absurd (by decide) hn⟩, fun hn => absurd hn (by decide), fun _ => ?_⟩
    · have hvkk := vk_kof (by omega) hD hpb
      have hdk := dg_kof hD hpb
      refine ⟨fun x li5 => ∃ j, x = nI j ∧ j ≤ D ∧ (∀ q, q < ms.length * 3 → li5 q = li q) ∧ (∀ q, q < j → li5 (ms.length * 3 + q) = nI (p q) - 51), fun x _ => 3 - x.toNatClampNeg, ⟨0, rfl, by omega, fun _ _ => rfl, by omega⟩, ?_⟩
      rintro x li5 ⟨j, rfl, hj, hlo, hhi⟩
      rw [hnd0]
      simp (disch := omega) only [nI_leI, nI_clamp, k1, k3, pk_mul, nI_add]
      refine ⟨fun h2 => ⟨vin (by omega) (by omega), vin (by omega) (by omega), ?_⟩, fun h2 => ⟨vin (by omega) (by omega), vin (by omega) (by omega), ⟨j + 1, rfl, by omega, fun q hq => ?_, fun q hq => ?_⟩, by omega⟩⟩
      · obtain rfl : j = D := by omega
        have hr : RE li5 (upd le ms.length (nI j)) (upd vs ms.length z) ms.length (kof p j, z) := by
          refine ⟨by rw [upd_s]; exact congrArg nI hvkk.2.symm, by rw [upd_s], fun t ht => ?_⟩
          have ht : t < j := by rw [← hvkk.2]; exact ht
          rw [hhi t ht]
          show _ = nI (dg (kof p j) t) - 51
          rw [hdk t (by omega), if_pos ht]
        have hold : ∀ i x, i < ms.length → RE li le vs i x → RE li5 (upd le ms.length (nI j)) (upd vs ms.length z) i x := by
          intro i x hi hx
          refine ⟨by rw [upd_n (by omega)]; exact hx.1, by rw [upd_n (by omega)]; exact hx.2.1, fun t ht => ?_⟩
          have := kl_le x.1
          rw [hlo _ (by omega)]
          exact hx.2.2 t ht
        obtain ⟨hMI', hmem⟩ := hMI.add hr hold hvkk.1 hab hJ
        have := hS (by omega) 0 _ _ _ _ _ (Or.inr ⟨rfl, hab, hJ⟩) hMI' hmem
        rw [hnd0, nI_1] at this
        exact this
      · rw [upd_n (by omega)]; exact hlo q hq
      · by_cases hqj : q = j
        · rw [hqj, upd_s]; exact hpo j (by omega)
        · rw [upd_n (by omega)]; exact hhi q (by omega)
    · rw [hnd0, k60, nI_eq (by omega) (by omega), ← hnd0]
      exact ⟨fun h2 => by omega, fun h2 => hF (by omega) hab h2⟩
theorem m_increment {D : Nat} {p : Nat → Nat} {ms : List (Nat × Int32)} {li le vs po : Nat → Int32} {nd dp : Int32} (hp : PM D p dp po) (h : MI ms li le vs nd) {z : Int32} {K : Int32 → (Nat → Int32) → (Nat → Int32) → (Nat → Int32) → Int32 → Prop}
    (h0 : D = 0 → K (-3) li le vs nd) (hF : 1 ≤ D → (∀ e ∈ ms, e.1 ≠ kof p D) → ms.length = 60 → K (-2) li le vs nd)
    (hS : 1 ≤ D → ∀ r ms' li' le' vs' nd', (∃ v, r = v + z ∧ (kof p D, v) ∈ ms) ∨ (r = z ∧ (∀ e ∈ ms, e.1 ≠ kof p D) ∧ ms.length < 60) → MI ms' li' le' vs' nd' → (∀ x, x ∈ ms' ↔ x = (kof p D, r) ∨ (x ∈ ms ∧ x.1 ≠ kof p D)) → K r li' le' vs' nd') : X1_increment_w li le vs nd po dp z K := by
  unfold X1_increment_w
  refine m_value hp h (fun hd v hv => m_set hp h (fun h1 => by omega) (fun _ hab _ => absurd rfl (hab _ hv)) (fun hd1 r ms' li' le' vs' nd' hr hMI' hmem => ?_)) (fun ha => m_set hp h (fun h1 => ⟨fun hn => absurd hn (by decide), fun _ => h0 h1⟩) (fun hd1 hab hl => ⟨fun hn => absurd hn (by decide), fun _ => hF hd1 hab hl⟩) (fun hd1 r ms' li' le' vs' nd' hr hMI' hmem => ?_))
  · have hr1 : r = 1 := by
      rcases hr with ⟨hr, -⟩ | ⟨-, hab, -⟩
      · exact hr
      · exact absurd rfl (hab _ hv)
    subst hr1
    exact ⟨fun _ => hS hd1 _ ms' _ _ _ _ (Or.inl ⟨v, rfl, hv⟩) hMI' hmem, fun hn => absurd (by decide) hn⟩
  · have hab : ∀ e ∈ ms, e.1 ≠ kof p D := by
      rcases ha with ha | ha
      · omega
      · exact ha
    rcases hr with ⟨-, e, he, hek⟩ | ⟨hr, -, hl⟩
    · exact absurd hek (hab e he)
    · subst hr
      have e0 : (0 : Int32) + z = z := by grind
      rw [e0] at hmem ⊢
      exact ⟨fun _ => hS hd1 _ ms' _ _ _ _ (Or.inr ⟨rfl, hab, hl⟩) hMI' hmem, fun hn => absurd (by decide) hn⟩
end
section
/-! the reference's questions -/
theorem n51 : (-51 : Int32) = nI 0 - 51 := by decide
theorem RE.at {li le vs : Nat → Int32} {i : Nat} {e : Nat × Int32} (h : RE li le vs i e) {j : Nat} (hj : j < kl e.1) : li (i * 3 + j) = nI (dg e.1 j) - 51 := h.2.2 j hj
theorem dg_z {k j : Nat} (hv : vk k) (hj : j < 3) (h : ¬ j < kl k) : dg k j = 0 := by
  rcases Nat.eq_zero_or_pos (dg k j) with h1 | h1
  · exact h1
  · exact absurd ((dg_kl hv hj).mpr (by omega)) h
theorem order_ok {D i : Nat} {p : Nat → Nat} {e : Nat × Int32} {li le vs po : Nat → Int32} {dp : Int32} (hp : PM D p dp po) (hi : i < 60) (hre : RE li le vs i e) (hv : vk e.1) {K : Int32 → Prop}
    (hlt : e.1 < kof p D → K (-1)) (heq : e.1 = kof p D → K 0) (hgt : kof p D < e.1 → K 1) : X1_order_w li le po dp (nI i) K := by
  obtain ⟨hD, rfl, hpb, hpo⟩ := hp
  have hdk := dg_kof hD hpb
  have hkk := kof_lt1 hD hpb
  have hkl := kl_le e.1
  unfold X1_order_w
  refine ⟨fun x => ∃ j, x = nI j ∧ j ≤ 3 ∧ ∀ j', j' < j → dg e.1 j' = dg (kof p D) j', fun x => 3 - x.toNatClampNeg, ⟨0, rfl, by omega, by omega⟩, ?_⟩
  rintro x ⟨j, rfl, hj, hall⟩
  simp (disch := omega) only [nI_leI, k3, k1, pk_mul, nI_add, nI_clamp, hre.1]
  refine ⟨fun h => heq (dg_ext hv.1 hkk (fun j' hj' => hall j' (by omega))), fun h => ?_⟩
  have b1 := dg_lt e.1 j
  have b2 := dg_lt (kof p D) j
  have hnext : dg e.1 j = dg (kof p D) j → (∃ j_1, nI (j + 1) = nI j_1 ∧ j_1 ≤ 3 ∧ ∀ j', j' < j_1 → dg e.1 j' = dg (kof p D) j') ∧ 3 - (j + 1) < 3 - j := by
    intro h2
    refine ⟨⟨j + 1, rfl, by omega, fun j' hj' => ?_⟩, by omega⟩
    by_cases hjj : j' = j
    · rw [hjj]; exact h2
    · exact hall j' (by omega)
  have hcmp : ∀ y, y = nI (dg (kof p D) j) - 51 → (nI (dg e.1 j) - 51 = y → (∃ j_1, nI (j + 1) = nI j_1 ∧ j_1 ≤ 3 ∧ ∀ j', j' < j_1 → dg e.1 j' = dg (kof p D) j') ∧ 3 - (j + 1) < 3 - j) ∧ (¬ nI (dg e.1 j) - 51 = y → (y ≤ nI (dg e.1 j) - 51 → K 1) ∧ (¬ y ≤ nI (dg e.1 j) - 51 → K (-1))) := by
    rintro y rfl
    rw [(dgI (by omega) (by omega)).1, (dgI (by omega) (by omega)).2.2]
    exact ⟨hnext, fun h2 => ⟨fun h3 => hgt (dg_lex hkk hv.1 (by omega) (fun i' hi' => (hall i' hi').symm) (by omega)), fun h3 => hlt (dg_lex hv.1 hkk (by omega) hall (by omega))⟩⟩
  refine ⟨fun x => x = nI (dg e.1 j) - 51, ?_, vin (by omega) (by omega), fun h2 => ?_, fun h2 => ⟨vin (by omega) (by omega), hre.at (by omega)⟩⟩
  · rintro _ rfl
    refine ⟨fun h2 => ?_, fun h2 => ⟨vin (by omega) (by omega), ?_⟩⟩
    · exact hcmp (-51) (by rw [hdk j (by omega), if_neg (by omega)]; exact n51)
    · exact hcmp _ (by rw [hdk j (by omega), if_pos (by omega)]; exact hpo j (by omega))
  · rw [dg_z hv (by omega) (by omega)]; exact n51
theorem earlier_ok {i i' : Nat} {e e' : Nat × Int32} {li le vs : Nat → Int32} (hi : i < 60) (hi' : i' < 60) (hre : RE li le vs i e) (hre' : RE li le vs i' e') (hv : vk e.1) (hv' : vk e'.1) {K : Int32 → Prop}
    (h1 : e.1 < e'.1 → K 1) (h0 : e'.1 ≤ e.1 → K 0) : X1_earlier_w li le (nI i) (nI i') K := by
  have hkl := kl_le e.1
  have hkl' := kl_le e'.1
  unfold X1_earlier_w
  refine ⟨fun x => ∃ j, x = nI j ∧ j ≤ 3 ∧ ∀ j', j' < j → dg e.1 j' = dg e'.1 j', fun x => 3 - x.toNatClampNeg, ⟨0, rfl, by omega, by omega⟩, ?_⟩
  rintro x ⟨j, rfl, hj, hall⟩
  simp (disch := omega) only [nI_leI, k3, k1, pk_mul, nI_add, nI_clamp, hre.1, hre'.1]
  refine ⟨fun h => h0 (by rw [dg_ext hv.1 hv'.1 (fun j' hj' => hall j' (by omega))]; exact Nat.le_refl _), fun h => ?_⟩
  have b1 := dg_lt e.1 j
  have b2 := dg_lt e'.1 j
  have hnext : dg e.1 j = dg e'.1 j → (∃ j_1, nI (j + 1) = nI j_1 ∧ j_1 ≤ 3 ∧ ∀ j', j' < j_1 → dg e.1 j' = dg e'.1 j') ∧ 3 - (j + 1) < 3 - j := by
    intro h2
    refine ⟨⟨j + 1, rfl, by omega, fun j' hj' => ?_⟩, by omega⟩
    by_cases hjj : j' = j
    · rw [hjj]; exact h2
    · exact hall j' (by omega)
  have hcmp : ∀ y, y = nI (dg e'.1 j) - 51 → (nI (dg e.1 j) - 51 = y → (∃ j_1, nI (j + 1) = nI j_1 ∧ j_1 ≤ 3 ∧ ∀ j', j' < j_1 → dg e.1 j' = dg e'.1 j') ∧ 3 - (j + 1) < 3 - j) ∧ (¬ nI (dg e.1 j) - 51 = y → (y ≤ nI (dg e.1 j) - 51 → K 0) ∧ (¬ y ≤ nI (dg e.1 j) - 51 → K 1)) := by
    rintro y rfl
    rw [(dgI (by omega) (by omega)).1, (dgI (by omega) (by omega)).2.2]
    exact ⟨hnext, fun h2 => ⟨fun h3 => h0 (Nat.le_of_lt (dg_lex hv'.1 hv.1 (by omega) (fun i' hi' => (hall i' hi').symm) (by omega))), fun h3 => h1 (dg_lex hv.1 hv'.1 (by omega) hall (by omega))⟩⟩
  refine ⟨fun x => x = nI (dg e.1 j) - 51, ?_, vin (by omega) (by omega), fun h2 => ?_, fun h2 => ⟨vin (by omega) (by omega), hre.at (by omega)⟩⟩
  · rintro _ rfl
    refine ⟨vin (by omega) (by omega), fun h2 => ?_, fun h2 => ⟨vin (by omega) (by omega), ?_⟩⟩
    · exact hcmp (-51) (by rw [dg_z hv' (by omega) (by omega)]; exact n51)
    · exact hcmp _ (hre'.at (by omega))
  · rw [dg_z hv (by omega) (by omega)]; exact n51
theorem m_before {D : Nat} {p : Nat → Nat} {ms : List (Nat × Int32)} {li le vs po : Nat → Int32} {nd dp : Int32} (hp : PM D p dp po) (h : MI ms li le vs nd) {K : Int32 → Prop}
    (hK : K (nI (ms.countP (fun e => decide (e.1 < kof p D))))) : X1_before_w li le nd po dp K := by
  obtain ⟨rfl, h60, hre, hvk, hnd⟩ := h
  unfold X1_before_w
  refine ⟨fun x1 x2 => ∃ i, x2 = nI i ∧ i ≤ ms.length ∧ x1 = nI ((ms.take i).countP (fun e => decide (e.1 < kof p D))), fun _ x2 => 60 - x2.toNatClampNeg, ⟨0, rfl, by omega, rfl⟩, ?_⟩
  rintro x1 x2 ⟨i, rfl, hi, rfl⟩
  simp (disch := omega) only [nI_leI, k1, nI_add, nI_clamp]
  refine ⟨fun h => ?_, fun h => ?_⟩
  · obtain rfl : i = ms.length := by omega
    rw [List.take_length]; exact hK
  · obtain ⟨e, he⟩ := ix_get (l := ms) (i := i) (by omega)
    have hstep : (ms.take (i + 1)).countP (fun e => decide (e.1 < kof p D)) = (ms.take i).countP (fun e => decide (e.1 < kof p D)) + if e.1 < kof p D then 1 else 0 := by
      rw [take_snoc he, List.countP_append, List.countP_singleton]; simp
    refine order_ok hp (by omega) (hre i e he) (hvk e (ix_mem he)) (fun h2 => ⟨fun hn => absurd hn (by decide), fun _ => ⟨⟨i + 1, rfl, by omega, by rw [hstep, if_pos h2]⟩, by omega⟩⟩) (fun h2 => ⟨fun _ => ⟨⟨i + 1, rfl, by omega, by rw [hstep, if_neg (by omega), Nat.add_zero]⟩, by omega⟩, fun hn => absurd (by decide) hn⟩) (fun h2 => ⟨fun _ => ⟨⟨i + 1, rfl, by omega, by rw [hstep, if_neg (by omega), Nat.add_zero]⟩, by omega⟩, fun hn => absurd (by decide) hn⟩)
theorem m_query {D : Nat} {p : Nat → Nat} {ms : List (Nat × Int32)} {li le vs po : Nat → Int32} {nd dp : Int32} (hp : PM D p dp po) (h : MI ms li le vs nd) {K : Int32 → Prop}
    (hN : (∀ x ∈ ms, x.1 ≤ kof p D) → K 0) (hS : ∀ e ∈ ms, kof p D < e.1 → (∀ x ∈ ms, kof p D < x.1 → e.1 ≤ x.1) → K e.2) : X1_query_w li le vs nd po dp K := by
  obtain ⟨rfl, h60, hre, hvk, hnd⟩ := h
  unfold X1_query_w
  refine ⟨fun x1 x2 => ∃ i, x2 = nI i ∧ i ≤ ms.length ∧ ((x1 = -1 ∧ ∀ j e, j < i → ms[j]? = some e → e.1 ≤ kof p D) ∨ (∃ b e, b < ms.length ∧ x1 = nI b ∧ ms[b]? = some e ∧ kof p D < e.1 ∧ ∀ j x, j < i → ms[j]? = some x → kof p D < x.1 → e.1 ≤ x.1)), fun _ x2 => 60 - x2.toNatClampNeg, ⟨0, rfl, by omega, Or.inl ⟨rfl, by omega⟩⟩, ?_⟩
  rintro x1 x2 ⟨i, rfl, hi, hbest⟩
  rw [nI_leI (by omega) (by omega)]
  refine ⟨fun h => ?_, fun h => ?_⟩
  · obtain rfl : i = ms.length := by omega
    rcases hbest with ⟨rfl, hall⟩ | ⟨b, e, hb, rfl, hbe, hlt, hall⟩
    · refine ⟨fun hn => absurd hn (by decide), fun _ => hN (fun x hx => ?_)⟩
      obtain ⟨j, hj⟩ := List.mem_iff_getElem?.mp hx
      exact hall j x (ix_lt hj) hj
    · refine ⟨fun _ => ?_, fun hn => absurd (nI_pos' (by omega)) hn⟩
      rw [nI_clamp (by omega), (hre b e hbe).2.1]
      refine ⟨vin (by omega) (by omega), hS e (ix_mem hbe) hlt (fun x hx => ?_)⟩
      obtain ⟨j, hj⟩ := List.mem_iff_getElem?.mp hx
      exact hall j x (ix_lt hj) hj
  · obtain ⟨e, he⟩ := ix_get (l := ms) (i := i) (by omega)
    have hr := hre i e he
    have hv := hvk e (ix_mem he)
    simp (disch := omega) only [k1, nI_add, nI_clamp]
    -- keep the best
    have hkeep : ((∃ b c, b < ms.length ∧ x1 = nI b ∧ ms[b]? = some c ∧ kof p D < c.1 ∧ c.1 ≤ e.1 ∧ ∀ j x, j < i → ms[j]? = some x → kof p D < x.1 → c.1 ≤ x.1) ∨ e.1 ≤ kof p D) → (∃ i_1, nI (i + 1) = nI i_1 ∧ i_1 ≤ ms.length ∧ ((x1 = -nI 1 ∧ ∀ j e, j < i_1 → ms[j]? = some e → e.1 ≤ kof p D) ∨ (∃ b e, b < ms.length ∧ x1 = nI b ∧ ms[b]? = some e ∧ kof p D < e.1 ∧ ∀ j x, j < i_1 → ms[j]? = some x → kof p D < x.1 → e.1 ≤ x.1))) ∧ 60 - (i + 1) < 60 - i := by
      intro hc
      refine ⟨⟨i + 1, rfl, by omega, ?_⟩, by omega⟩
      rcases hc with ⟨b, c, hb, h1, h2, h3, h4, h5⟩ | hle
      · refine Or.inr ⟨b, c, hb, h1, h2, h3, fun j x hj hx hk => ?_⟩
        by_cases hji : j = i
        · subst hji; rw [he] at hx; cases hx; exact h4
        · exact h5 j x (by omega) hx hk
      · rcases hbest with ⟨h1, hall⟩ | ⟨b, c, hb, h1, h2, h3, h5⟩
        · refine Or.inl ⟨h1, fun j x hj hx => ?_⟩
          by_cases hji : j = i
          · subst hji; rw [he] at hx; cases hx; exact hle
          · exact hall j x (by omega) hx
        · refine Or.inr ⟨b, c, hb, h1, h2, h3, fun j x hj hx hk => ?_⟩
          by_cases hji : j = i
          · subst hji; rw [he] at hx; cases hx; omega
          · exact h5 j x (by omega) hx hk
    -- take the new one
    have htake : kof p D < e.1 → (∀ j x, j < i → ms[j]? = some x → kof p D < x.1 → e.1 ≤ x.1) → (∃ i_1, nI (i + 1) = nI i_1 ∧ i_1 ≤ ms.length ∧ ((nI i = -nI 1 ∧ ∀ j e, j < i_1 → ms[j]? = some e → e.1 ≤ kof p D) ∨ (∃ b e, b < ms.length ∧ nI i = nI b ∧ ms[b]? = some e ∧ kof p D < e.1 ∧ ∀ j x, j < i_1 → ms[j]? = some x → kof p D < x.1 → e.1 ≤ x.1))) ∧ 60 - (i + 1) < 60 - i := by
      intro hlt hall
      refine ⟨⟨i + 1, rfl, by omega, Or.inr ⟨i, e, by omega, rfl, he, hlt, fun j x hj hx hk => ?_⟩⟩, by omega⟩
      by_cases hji : j = i
      · subst hji; rw [he] at hx; cases hx; exact Nat.le_refl _
      · exact hall j x (by omega) hx hk
    refine order_ok hp (by omega) hr hv (fun h2 => ⟨fun _ => hkeep (Or.inr (by omega)), fun hn => absurd (by decide) hn⟩) (fun h2 => ⟨fun _ => hkeep (Or.inr (by omega)), fun hn => absurd (by decide) hn⟩) (fun h2 => ⟨fun hn => absurd hn (by decide), fun _ => ?_⟩)
    rcases hbest with ⟨rfl, hall⟩ | ⟨b, c, hb, rfl, hbc, hlt, hall⟩
    · refine ⟨fun _ => htake h2 (fun j x hj hx hk => ?_), fun hn => absurd (by decide) hn⟩
      have := hall j x hj hx
      omega
    · refine ⟨fun hn => absurd hn (nI_pos (by omega)), fun _ => earlier_ok (by omega) (by omega) hr (hre b c hbc) hv (hvk c (ix_mem hbc)) (fun h3 => ⟨fun hn => absurd hn (by decide), fun _ => htake h2 (fun j x hj hx hk => ?_)⟩) (fun h3 => ⟨fun _ => hkeep (Or.inl ⟨b, c, hb, rfl, hbc, hlt, h3, hall⟩), fun hn => absurd rfl hn⟩)⟩
      have := hall j x hj hx hk
      omega
theorem m_data {D : Nat} {p : Nat → Nat} {ms : List (Nat × Int32)} {li le vs po : Nat → Int32} {nd dp : Int32} (hp : PM D p dp po) (h : MI ms li le vs nd) {K : Int32 → Prop}
    (hK : ∀ x, ((x = 10 ∧ ∃ e ∈ ms, kbh p D ≤ e.1 ∧ e.1 < eof p D) ∨ (x = 0 ∧ ∀ e ∈ ms, kbh p D ≤ e.1 → ¬ e.1 < eof p D)) → ((D = 0 ∨ ∀ e ∈ ms, e.1 ≠ kof p D) → K x) ∧ ((1 ≤ D ∧ ∃ e ∈ ms, e.1 = kof p D) → K (x + 1))) : X1_data_w li le nd po dp K := by
  have hMI := h
  have hp' := hp
  obtain ⟨rfl, h60, hre, hvk, hnd⟩ := h
  obtain ⟨hD, rfl, hpb, hpo⟩ := hp
  unfold X1_data_w
  refine ⟨fun x1 x2 => ∃ i, x2 = nI i ∧ i ≤ ms.length ∧ ((x1 = 10 ∧ ∃ e ∈ ms, kbh p D ≤ e.1 ∧ e.1 < eof p D) ∨ (x1 = 0 ∧ ∀ j e, j < i → ms[j]? = some e → kbh p D ≤ e.1 → ¬ e.1 < eof p D)), fun _ x2 => 60 - x2.toNatClampNeg, ⟨0, rfl, by omega, Or.inr ⟨rfl, by omega⟩⟩, ?_⟩
  rintro x1 x2 ⟨i, rfl, hi, hb⟩
  rw [nI_leI (by omega) (by omega)]
  refine ⟨fun h => ?_, fun h => ?_⟩
  · obtain rfl : i = ms.length := by omega
    have hx := hK x1 (by
      rcases hb with hb | ⟨h1, h2⟩
      · exact Or.inl hb
      · refine Or.inr ⟨h1, fun e he => ?_⟩
        obtain ⟨j, hj⟩ := List.mem_iff_getElem?.mp he
        exact h2 j e (ix_lt hj) hj)
    refine here_ok hp' hMI (fun j e hj hd he => ⟨fun hn => absurd hn (nI_pos (by have := ix_lt hj; omega)), fun _ => hx.2 ⟨hd, e, ix_mem hj, he⟩⟩) (fun ha => ⟨fun _ => hx.1 ha, fun hn => absurd (by decide) hn⟩)
  · obtain ⟨e, he⟩ := ix_get (l := ms) (i := i) (by omega)
    have hr := hre i e he
    have hv := hvk e (ix_mem he)
    have hkl := kl_le e.1
    have hbel := below_iff hD hpb hv
    simp (disch := omega) only [k1, nI_add, nI_clamp]
    have hkeep : ¬ (kbh p D ≤ e.1 ∧ e.1 < eof p D) → (∃ i_1, nI (i + 1) = nI i_1 ∧ i_1 ≤ ms.length ∧ ((x1 = 10 ∧ ∃ e ∈ ms, kbh p D ≤ e.1 ∧ e.1 < eof p D) ∨ (x1 = 0 ∧ ∀ j e, j < i_1 → ms[j]? = some e → kbh p D ≤ e.1 → ¬ e.1 < eof p D))) ∧ 60 - (i + 1) < 60 - i := by
      intro hn
      refine ⟨⟨i + 1, rfl, by omega, ?_⟩, by omega⟩
      rcases hb with hb | ⟨h1, h2⟩
      · exact Or.inl hb
      · refine Or.inr ⟨h1, fun j x hj hx h3 h4 => ?_⟩
        by_cases hji : j = i
        · subst hji; rw [he] at hx; cases hx; exact hn ⟨h3, h4⟩
        · exact h2 j x (by omega) hx h3 h4
    refine begins_ok hD hpb hpo (by omega) hr hv (fun h2 => ⟨fun hn => absurd hn (by decide), fun _ => ⟨vin (by omega) (by omega), ?_⟩⟩) (fun h2 => ⟨fun _ => hkeep (fun h3 => ?_), fun hn => absurd rfl hn⟩)
    · rw [hr.1, nI_leI (by omega) (by omega)]
      refine ⟨fun h3 => hkeep (fun h4 => ?_), fun h3 => ⟨⟨i + 1, rfl, by omega, Or.inl ⟨trivial, e, ix_mem he, hbel.mp ⟨rg_iff.mp h2, by omega⟩⟩⟩, by omega⟩⟩
      have := (hbel.mpr h4).2
      omega
    · have := (hbel.mpr h3).1
      rw [rg_iff.mpr this] at h2
      cases h2
end
section
/-! nearest, and kill -/
theorem dgN {a : Nat} (ha : a < 1000) : ¬ nI a - 51 = -100 := by
  rw [← Int32.toInt_inj, show (nI a - 51).toInt = (a : Int) - 51 from pk_sub_toInt (b := 51) (by omega) (by omega)]
  have : (-100 : Int32).toInt = -100 := by decide
  omega
theorem way_up {a b : Nat} (ha : a < 1000) (hb : b < 1000) : ((nI a - 51) - (nI b - 51)) * 1 ≤ 0 ↔ ¬ b < a := by
  have e : ((nI a - 51) - (nI b - 51)) * 1 = nI a - nI b := by generalize nI a = x; generalize nI b = y; grind
  rw [e, Int32.le_iff_toInt_le, pk_sub_toInt (by omega) (by omega)]
  have : (0 : Int32).toInt = 0 := by decide
  omega
theorem way_down {a b : Nat} (ha : a < 1000) (hb : b < 1000) : ((nI a - 51) - (nI b - 51)) * (-1) ≤ 0 ↔ ¬ a < b := by
  have e : ((nI a - 51) - (nI b - 51)) * (-1) = nI b - nI a := by generalize nI a = x; generalize nI b = y; grind
  rw [e, Int32.le_iff_toInt_le, pk_sub_toInt (by omega) (by omega)]
  have : (0 : Int32).toInt = 0 := by decide
  omega
def fit (p : Nat → Nat) (n lo : Nat) (R : Nat → Nat → Prop) (e : Nat × Int32) : Prop := rg (kof p n) (eof p n) e = true ∧ n < kl e.1 ∧ R (dg e.1 n) lo
set_option maxHeartbeats 2000000 in
theorem nearest_ok {n lo : Nat} {p : Nat → Nat} {ms : List (Nat × Int32)} {li le vs po : Nat → Int32} {nd z3 : Int32} {R : Nat → Nat → Prop} (hn : n ≤ 2) (hpb : ∀ j, j < n → 1 ≤ p j ∧ p j ≤ 101) (hpo : ∀ j, j < n → po j = nI (p j) - 51) (h : MI ms li le vs nd) (hlo : lo < 1000)
    (hR : ∀ a b, a < 1000 → b < 1000 → (((nI a - 51) - (nI b - 51)) * z3 ≤ 0 ↔ ¬ R a b)) (hRi : ∀ a, ¬ R a a) (hRt : ∀ a b c, R a b → R b c → R a c) {K : Int32 → Prop}
    (hN : (∀ e ∈ ms, ¬ fit p n lo R e) → K (-100)) (hS : ∀ e ∈ ms, fit p n lo R e → (∀ x ∈ ms, fit p n lo R x → ¬ R (dg e.1 n) (dg x.1 n)) → K (nI (dg e.1 n) - 51)) : X1_nearest_w li le nd po (nI n) (nI lo - 51) z3 K := by
  obtain ⟨rfl, h60, hre, hvk, hnd⟩ := h
  unfold X1_nearest_w
  refine ⟨fun x4 x5 => ∃ i, x5 = nI i ∧ i ≤ ms.length ∧ ((x4 = -100 ∧ ∀ j e, j < i → ms[j]? = some e → ¬ fit p n lo R e) ∨ (∃ c ∈ ms, x4 = nI (dg c.1 n) - 51 ∧ fit p n lo R c ∧ ∀ j x, j < i → ms[j]? = some x → fit p n lo R x → ¬ R (dg c.1 n) (dg x.1 n))), fun _ x5 => 60 - x5.toNatClampNeg, ⟨0, rfl, by omega, Or.inl ⟨rfl, by omega⟩⟩, ?_⟩
  rintro x4 x5 ⟨i, rfl, hi, hb⟩
  rw [nI_leI (by omega) (by omega)]
  refine ⟨fun h => ?_, fun h => ?_⟩
  · obtain rfl : i = ms.length := by omega
    rcases hb with ⟨rfl, hall⟩ | ⟨c, hc, rfl, hfit, hall⟩
    · refine hN (fun e he => ?_)
      obtain ⟨j, hj⟩ := List.mem_iff_getElem?.mp he
      exact hall j e (ix_lt hj) hj
    · refine hS c hc hfit (fun x hx => ?_)
      obtain ⟨j, hj⟩ := List.mem_iff_getElem?.mp hx
      exact hall j x (ix_lt hj) hj
  · obtain ⟨e, he⟩ := ix_get (l := ms) (i := i) (by omega)
    have hr := hre i e he
    have hv := hvk e (ix_mem he)
    have hkl := kl_le e.1
    have hdl := dg_lt e.1 n
    simp (disch := omega) only [nI_1, k3, pk_mul, nI_add, nI_clamp]
    have hkeep : (fit p n lo R e → ∃ c ∈ ms, x4 = nI (dg c.1 n) - 51 ∧ fit p n lo R c ∧ ¬ R (dg c.1 n) (dg e.1 n) ∧ ∀ j x, j < i → ms[j]? = some x → fit p n lo R x → ¬ R (dg c.1 n) (dg x.1 n)) → (∃ i_1, nI (i + 1) = nI i_1 ∧ i_1 ≤ ms.length ∧ ((x4 = -100 ∧ ∀ j e, j < i_1 → ms[j]? = some e → ¬ fit p n lo R e) ∨ (∃ c ∈ ms, x4 = nI (dg c.1 n) - 51 ∧ fit p n lo R c ∧ ∀ j x, j < i_1 → ms[j]? = some x → fit p n lo R x → ¬ R (dg c.1 n) (dg x.1 n)))) ∧ 60 - (i + 1) < 60 - i := by
      intro hc
      refine ⟨⟨i + 1, rfl, by omega, ?_⟩, by omega⟩
      by_cases hf : fit p n lo R e
      · obtain ⟨c, hc1, hc2, hc3, hc4, hc5⟩ := hc hf
        refine Or.inr ⟨c, hc1, hc2, hc3, fun j x hj hx hfx => ?_⟩
        by_cases hji : j = i
        · subst hji; rw [he] at hx; cases hx; exact hc4
        · exact hc5 j x (by omega) hx hfx
      · rcases hb with ⟨h1, h2⟩ | ⟨c, hc1, hc2, hc3, hc5⟩
        · refine Or.inl ⟨h1, fun j x hj hx => ?_⟩
          by_cases hji : j = i
          · subst hji; rw [he] at hx; cases hx; exact hf
          · exact h2 j x (by omega) hx
        · refine Or.inr ⟨c, hc1, hc2, hc3, fun j x hj hx hfx => ?_⟩
          by_cases hji : j = i
          · subst hji; rw [he] at hx; cases hx; exact absurd hfx hf
          · exact hc5 j x (by omega) hx hfx
    have htake : fit p n lo R e → (∀ j x, j < i → ms[j]? = some x → fit p n lo R x → ¬ R (dg e.1 n) (dg x.1 n)) → (∃ i_1, nI (i + 1) = nI i_1 ∧ i_1 ≤ ms.length ∧ ((nI (dg e.1 n) - 51 = -100 ∧ ∀ j e, j < i_1 → ms[j]? = some e → ¬ fit p n lo R e) ∨ (∃ c ∈ ms, nI (dg e.1 n) - 51 = nI (dg c.1 n) - 51 ∧ fit p n lo R c ∧ ∀ j x, j < i_1 → ms[j]? = some x → fit p n lo R x → ¬ R (dg c.1 n) (dg x.1 n)))) ∧ 60 - (i + 1) < 60 - i := by
      intro hf hall
      refine ⟨⟨i + 1, rfl, by omega, Or.inr ⟨e, ix_mem he, rfl, hf, fun j x hj hx hfx => ?_⟩⟩, by omega⟩
      by_cases hji : j = i
      · subst hji; rw [he] at hx; cases hx; exact hRi _
      · exact hall j x (by omega) hx hfx
    refine ⟨vin (by omega) (by omega), begins_ok (by omega) hpb hpo (by omega) hr hv (fun h2 => ⟨fun hn => absurd hn (by decide), fun _ => ⟨vin (by omega) (by omega), ?_⟩⟩) (fun h2 => ⟨fun _ => hkeep (fun hf => ?_), fun hn => absurd rfl hn⟩)⟩
    · rw [hr.1, nI_leI (by omega) (by omega)]
      refine ⟨fun h3 => hkeep (fun hf => absurd hf.2.1 (by omega)), fun h3 => ?_⟩
      rw [hr.at (by omega), hR _ _ (by omega) hlo]
      refine ⟨fun h4 => hkeep (fun hf => absurd hf.2.2 h4), fun h4 => ?_⟩
      have hf : fit p n lo R e := ⟨h2, by omega, Classical.not_not.mp h4⟩
      rcases hb with ⟨rfl, hall⟩ | ⟨c, hc, rfl, hfit, hall⟩
      · exact ⟨fun _ => htake hf (fun j x hj hx hfx => absurd hfx (hall j x hj hx)), fun hn => absurd rfl hn⟩
      · have hcl := dg_lt c.1 n
        refine ⟨fun hn => absurd hn (dgN (by omega)), fun _ => ?_⟩
        rw [hR _ _ (by omega) (by omega)]
        refine ⟨fun h5 => hkeep (fun _ => ⟨c, hc, rfl, hfit, h5, hall⟩), fun h5 => htake hf (fun j x hj hx hfx h6 => ?_)⟩
        exact hall j x hj hx hfx (hRt _ _ _ (Classical.not_not.mp h5) h6)
    · rw [hf.1] at h2; cases h2
theorem m_first {D : Nat} {p : Nat → Nat} {ms : List (Nat × Int32)} {li le vs po : Nat → Int32} {nd dp : Int32} (hp : PM D p dp po) (h : MI ms li le vs nd) {K : Int32 → Prop}
    (h3 : D = 3 → K (-100)) (hN : D < 3 → (∀ e ∈ ms, ¬ (kbh p D ≤ e.1 ∧ e.1 < eof p D)) → K (-100)) (hS : D < 3 → ∀ e ∈ ms, kbh p D ≤ e.1 → e.1 < eof p D → (∀ x ∈ ms, kbh p D ≤ x.1 → x.1 < eof p D → dg e.1 D ≤ dg x.1 D) → K (nI (dg e.1 D) - 51)) : X1_first_w li le nd po dp K := by
  have hMI := h
  obtain ⟨hD, rfl, hpb, hpo⟩ := hp
  have hvk := h.2.2.2.1
  have hfit : ∀ e ∈ ms, D < 3 → (fit p D 0 (fun a b => b < a) e ↔ kbh p D ≤ e.1 ∧ e.1 < eof p D) := by
    intro e he hd
    rw [← below_iff hD hpb (hvk e he), ← rg_iff]
    unfold fit
    constructor
    · rintro ⟨h1, h2, h3⟩; exact ⟨h1, h2⟩
    · rintro ⟨h1, h2⟩
      have := (dg_kl (hvk e he) hd).mp h2
      exact ⟨h1, h2, by omega⟩
  unfold X1_first_w
  rw [k3, nI_eq (by omega) (by omega), n51]
  refine ⟨fun hd => nearest_ok (R := fun a b => b < a) (by omega) hpb hpo hMI (by omega) (fun a b ha hb => way_up ha hb) (fun a => by omega) (fun a b c h1 h2 => by omega) (fun hall => hN (by omega) (fun e he hh => hall e he ((hfit e he (by omega)).mpr hh))) (fun e he hf hall => ?_), fun hd => h3 hd⟩
  have hf2 := (hfit e he (by omega)).mp hf
  exact hS (by omega) e he hf2.1 hf2.2 (fun x hx h1 h2 => by have := hall x hx ((hfit x hx (by omega)).mpr ⟨h1, h2⟩); omega)
/-- the nodes with another last subscript than the pointer's -/
theorem side_iff {D k : Nat} {p : Nat → Nat} (hD1 : 1 ≤ D) (hD : D ≤ 3) (hp : ∀ j, j < D → 1 ≤ p j ∧ p j ≤ 101) (hv : vk k) : (((kof p (D - 1) ≤ k ∧ k < eof p (D - 1)) ∧ D - 1 < kl k ∧ p (D - 1) < dg k (D - 1)) ↔ eof p D ≤ k ∧ k < eof p (D - 1)) ∧ (((kof p (D - 1) ≤ k ∧ k < eof p (D - 1)) ∧ D - 1 < kl k ∧ dg k (D - 1) < p (D - 1)) ↔ kof p (D - 1) + un (D - 1) ≤ k ∧ k < kof p D) := by
  have hb := bg_iff (p := p) (n := D - 1) (by omega) (fun j hj => hp j (by omega)) hv.1
  have hdk := dg_kl hv (j := D - 1) (by omega)
  have hs := dg_sum hv.1
  have b1 := dg_lt k 1
  have b2 := dg_lt k 2
  obtain ⟨v0, v1, v2, v3, v4, v5⟩ := hv
  have hpl := hp (D - 1) (by omega)
  rw [← hb, hdk]
  match D, hD1, hD with
  | 1, _, _ =>
    simp only [Nat.sub_self, kof, eof, un] at *
    simp
    constructor <;> omega
  | 2, _, _ =>
    have p0 := hp 0 (by omega)
    have e0 : (∀ j, j < 2 - 1 → dg k j = p j) ↔ dg k 0 = p 0 := by
      constructor
      · intro h; exact h 0 (by omega)
      · intro h j hj
        obtain rfl : j = 0 := by omega
        exact h
    rw [e0]
    simp only [show 2 - 1 = 1 from rfl, kof, eof, un] at *
    simp
    constructor <;> omega
  | 3, _, _ =>
    have p0 := hp 0 (by omega)
    have p1 := hp 1 (by omega)
    have e0 : (∀ j, j < 3 - 1 → dg k j = p j) ↔ dg k 0 = p 0 ∧ dg k 1 = p 1 := by
      constructor
      · intro h; exact ⟨h 0 (by omega), h 1 (by omega)⟩
      · intro h j hj
        rcases (show j = 0 ∨ j = 1 by omega) with rfl | rfl
        · exact h.1
        · exact h.2
    rw [e0]
    simp only [show 3 - 1 = 2 from rfl, kof, eof, un] at *
    simp
    constructor <;> omega
theorem m_next {D : Nat} {p : Nat → Nat} {ms : List (Nat × Int32)} {li le vs po : Nat → Int32} {nd dp : Int32} (hp : PM D p dp po) (h : MI ms li le vs nd) {K : Int32 → Prop}
    (h0 : D = 0 → K (-100)) (hN : 1 ≤ D → (∀ e ∈ ms, ¬ (eof p D ≤ e.1 ∧ e.1 < eof p (D - 1))) → K (-100)) (hS : 1 ≤ D → ∀ e ∈ ms, eof p D ≤ e.1 → e.1 < eof p (D - 1) → (∀ x ∈ ms, eof p D ≤ x.1 → x.1 < eof p (D - 1) → dg e.1 (D - 1) ≤ dg x.1 (D - 1)) → K (nI (dg e.1 (D - 1)) - 51)) : X1_next_w li le nd po dp K := by
  have hMI := h
  obtain ⟨hD, rfl, hpb, hpo⟩ := hp
  have hvk := h.2.2.2.1
  unfold X1_next_w
  rw [k0, nI_eq (by omega) (by omega)]
  refine ⟨fun hd => ?_, fun hd => h0 hd⟩
  have hd1 : 1 ≤ D := by omega
  have hfit : ∀ e ∈ ms, (fit p (D - 1) (p (D - 1)) (fun a b => b < a) e ↔ eof p D ≤ e.1 ∧ e.1 < eof p (D - 1)) := by
    intro e he
    rw [← (side_iff hd1 hD hpb (hvk e he)).1, ← rg_iff]
    exact Iff.rfl
  have hpl := hpb (D - 1) (by omega)
  rw [k1, pk_sub hd1, nI_clamp (by omega), hpo (D - 1) (by omega)]
  refine ⟨vin (by omega) (by omega), nearest_ok (R := fun a b => b < a) (by omega) (fun j hj => hpb j (by omega)) (fun j hj => hpo j (by omega)) hMI (by omega) (fun a b ha hb => way_up ha hb) (fun a => by omega) (fun a b c h1 h2 => by omega) (fun hall => hN hd1 (fun e he hh => hall e he ((hfit e he).mpr hh))) (fun e he hf hall => ?_)⟩
  have hf2 := (hfit e he).mp hf
  exact hS hd1 e he hf2.1 hf2.2 (fun x hx h1 h2 => by have := hall x hx ((hfit x hx).mpr ⟨h1, h2⟩); omega)
theorem m_previous {D : Nat} {p : Nat → Nat} {ms : List (Nat × Int32)} {li le vs po : Nat → Int32} {nd dp : Int32} (hp : PM D p dp po) (h : MI ms li le vs nd) {K : Int32 → Prop}
    (h0 : D = 0 → K (-100)) (hN : 1 ≤ D → (∀ e ∈ ms, ¬ (kof p (D - 1) + un (D - 1) ≤ e.1 ∧ e.1 < kof p D)) → K (-100)) (hS : 1 ≤ D → ∀ e ∈ ms, kof p (D - 1) + un (D - 1) ≤ e.1 → e.1 < kof p D → (∀ x ∈ ms, kof p (D - 1) + un (D - 1) ≤ x.1 → x.1 < kof p D → dg x.1 (D - 1) ≤ dg e.1 (D - 1)) → K (nI (dg e.1 (D - 1)) - 51)) : X1_previous_w li le nd po dp K := by
  have hMI := h
  obtain ⟨hD, rfl, hpb, hpo⟩ := hp
  have hvk := h.2.2.2.1
  unfold X1_previous_w
  rw [k0, nI_eq (by omega) (by omega)]
  refine ⟨fun hd => ?_, fun hd => h0 hd⟩
  have hd1 : 1 ≤ D := by omega
  have hfit : ∀ e ∈ ms, (fit p (D - 1) (p (D - 1)) (fun a b => a < b) e ↔ kof p (D - 1) + un (D - 1) ≤ e.1 ∧ e.1 < kof p D) := by
    intro e he
    rw [← (side_iff hd1 hD hpb (hvk e he)).2, ← rg_iff]
    exact Iff.rfl
  have hpl := hpb (D - 1) (by omega)
  rw [show (nI D - 1 : Int32) = nI (D - 1) from pk_sub hd1, nI_clamp (by omega), hpo (D - 1) (by omega)]
  refine ⟨vin (by omega) (by omega), nearest_ok (R := fun a b => a < b) (by omega) (fun j hj => hpb j (by omega)) (fun j hj => hpo j (by omega)) hMI (by omega) (fun a b ha hb => way_down ha hb) (fun a => by omega) (fun a b c h1 h2 => by omega) (fun hall => hN hd1 (fun e he hh => hall e he ((hfit e he).mpr hh))) (fun e he hf hall => ?_)⟩
  have hf2 := (hfit e he).mp hf
  exact hS hd1 e he hf2.1 hf2.2 (fun x hx h1 h2 => by have := hall x hx ((hfit x hx).mpr ⟨h1, h2⟩); omega)
set_option maxHeartbeats 4000000 in
theorem m_kill {D : Nat} {p : Nat → Nat} {ms : List (Nat × Int32)} {li le vs po : Nat → Int32} {nd dp : Int32} (hp : PM D p dp po) (h : MI ms li le vs nd) {K : Int32 → (Nat → Int32) → (Nat → Int32) → (Nat → Int32) → Int32 → Prop}
    (hK : ∀ ms' li' le' vs' nd', MI ms' li' le' vs' nd' → ms' = ms.filter (fun e => !rg (kof p D) (eof p D) e) → K (nI (ms.length - ms'.length)) li' le' vs' nd') : X1_kill_w li le vs nd po dp K := by
  obtain ⟨hD, rfl, hpb, hpo⟩ := hp
  obtain ⟨rfl, h60, hre, hvk, hnd⟩ := h
  generalize hf : (fun e : Nat × Int32 => !rg (kof p D) (eof p D) e) = f at hK
  have hlf : ∀ i, ((ms.take i).filter f).length ≤ i := fun i => Nat.le_trans (List.length_filter_le _ _) (by rw [List.length_take]; omega)
  unfold X1_kill_w
  refine ⟨fun x1 x2 li' le' vs' => ∃ i, x2 = nI i ∧ i ≤ ms.length ∧ x1 = nI ((ms.take i).filter f).length ∧ (∀ j e, ((ms.take i).filter f)[j]? = some e → RE li' le' vs' j e) ∧ (∀ j e, i ≤ j → ms[j]? = some e → RE li' le' vs' j e), fun _ x2 _ _ _ => 60 - x2.toNatClampNeg, ⟨0, rfl, by omega, rfl, fun j e hj => by simp at hj, fun j e _ hj => hre j e hj⟩, ?_⟩
  rintro x1 x2 li' le' vs' ⟨i, rfl, hi, rfl, hlo, hhi⟩
  have hl1 := hlf i
  rw [nI_leI (by omega) (by omega)]
  refine ⟨fun h => ?_, fun h => ?_⟩
  · obtain rfl : i = ms.length := by omega
    rw [List.take_length] at hlo hl1 ⊢
    rw [pk_sub hl1]
    refine hK (ms.filter f) _ _ _ _ ⟨rfl, by omega, hlo, fun e he => hvk e (List.mem_filter.mp he).1, hnd.sublist List.filter_sublist⟩ rfl
  · obtain ⟨e, he⟩ := ix_get (l := ms) (i := i) (by omega)
    have hr := hhi i e (Nat.le_refl _) he
    have hv := hvk e (ix_mem he)
    have hkl := kl_le e.1
    generalize hL : (ms.take i).filter f = L at *
    have hstep : (ms.take (i + 1)).filter f = L ++ if f e = true then [e] else [] := by
      rw [take_snoc he, List.filter_append, hL, List.filter_cons, List.filter_nil]
    refine begins_ok hD hpb hpo (by omega) hr hv (fun h2 => ⟨fun _ => ?_, fun hn => absurd hn (by decide)⟩) (fun h2 => ⟨fun hn => absurd rfl hn, fun _ => ?_⟩)
    · have hfe : f e = false := by rw [← hf]; simp [h2]
      rw [hfe] at hstep
      simp at hstep
      simp (disch := omega) only [nI_1, nI_clamp]
      exact ⟨⟨i + 1, rfl, by omega, by rw [hstep], by rw [hstep]; exact hlo, fun j x hj hx => hhi j x (by omega) hx⟩, by omega⟩
    · have hfe : f e = true := by rw [← hf]; simp [h2]
      rw [hfe, if_pos rfl] at hstep
      refine ⟨fun x li5 => ∃ t, x = nI t ∧ t ≤ 3 ∧ li5 = (fun q => if L.length * 3 ≤ q ∧ q < L.length * 3 + t then li' (i * 3 + (q - L.length * 3)) else li' q), fun x _ => 3 - x.toNatClampNeg, ⟨0, rfl, by omega, ?_⟩, ?_⟩
      · funext q; rw [if_neg (by omega)]
      rintro x li5 ⟨t, rfl, ht, rfl⟩
      simp (disch := omega) only [nI_leI, nI_clamp, k3, k1, pk_mul, nI_add]
      refine ⟨fun h3 => ⟨vin (by omega) (by omega), vin (by omega) (by omega), vin (by omega) (by omega), vin (by omega) (by omega), ⟨i + 1, rfl, by omega, ?_, fun j x hj => ?_, fun j x hj hx => ?_⟩, by omega⟩, fun h3 => ⟨vin (by omega) (by omega), vin (by omega) (by omega), ⟨t + 1, rfl, by omega, ?_⟩, by omega⟩⟩
      · rw [hstep, List.length_append, List.length_singleton]
      · obtain rfl : t = 3 := by omega
        rw [hstep] at hj
        rcases ix_a hj with ⟨h4, h5⟩ | ⟨h4, h5⟩ | ⟨r, h4, h5⟩
        · have hx := hlo j x h5
          have hkx := kl_le x.1
          refine ⟨by rw [upd_n (by omega)]; exact hx.1, by rw [upd_n (by omega)]; exact hx.2.1, fun m hm => ?_⟩
          simp only []
          rw [if_neg (by omega)]; exact hx.2.2 m hm
        · subst h4; subst h5
          refine ⟨by rw [upd_s]; exact hr.1, by rw [upd_s]; exact hr.2.1, fun m hm => ?_⟩
          simp only []
          rw [if_pos (by omega), show i * 3 + (L.length * 3 + m - L.length * 3) = i * 3 + m by omega]
          exact hr.2.2 m hm
        · simp at h5
      · obtain rfl : t = 3 := by omega
        have hx2 := hhi j x (by omega) hx
        have hkx := kl_le x.1
        refine ⟨by rw [upd_n (by omega)]; exact hx2.1, by rw [upd_n (by omega)]; exact hx2.2.1, fun m hm => ?_⟩
        simp only []
        rw [if_neg (by omega)]; exact hx2.2.2 m hm
      · funext q
        by_cases hq : q = L.length * 3 + t
        · rw [hq, upd_s, if_neg (by omega), if_pos (by omega)]
          congr 1
          omega
        · rw [upd_n hq]
          by_cases hc : L.length * 3 ≤ q ∧ q < L.length * 3 + t
          · rw [if_pos hc, if_pos (by omega)]
          · rw [if_neg hc, if_neg (by omega)]
end
section
/-! twin, place, merge of the reference -/
/-- the target key: its digits -/
theorem tg_dg {D q k : Nat} {p : Nat → Nat} (hD1 : 1 ≤ D) (hD : D ≤ 3) (hp : ∀ j, j < D → 1 ≤ p j ∧ p j ≤ 101) (hq : 1 ≤ q ∧ q ≤ 101) (hv : vk k) (hr : kof p D ≤ k ∧ k < eof p D) : vk (tgk D p q k) ∧ kl (tgk D p q k) = kl k ∧ ∀ j, j < 3 → dg (tgk D p q k) j = if j = D - 1 then q else dg k j := by
  have hb := (bg_iff hD hp hv.1).mpr hr
  have hs := dg_sum hv.1
  obtain ⟨v0, v1, v2, v3, v4, v5⟩ := hv
  have key : ∃ a b c, tgk D p q k = a * 16384 + b * 128 + c ∧ a = (if 0 = D - 1 then q else dg k 0) ∧ b = (if 1 = D - 1 then q else dg k 1) ∧ c = (if 2 = D - 1 then q else dg k 2) := by
    refine ⟨_, _, _, ?_, rfl, rfl, rfl⟩
    unfold tgk
    match D, hD1, hD with
    | 1, _, _ => have := hb 0 (by omega); simp [un]; omega
    | 2, _, _ => have := hb 0 (by omega); have := hb 1 (by omega); simp [un]; omega
    | 3, _, _ => have := hb 0 (by omega); have := hb 1 (by omega); have := hb 2 (by omega); simp [un]; omega
  obtain ⟨a, b, c, hk, ha, hb', hc⟩ := key
  have hal : a < 102 := by rw [ha]; split <;> omega
  have hbl : b < 102 := by rw [hb']; split <;> omega
  have hcl : c < 102 := by rw [hc]; split <;> omega
  obtain ⟨d0, d1, d2⟩ := dg_of (a := a) (b := b) (c := c) (by omega) (by omega) (by omega)
  have hd : ∀ j, j < 3 → dg (tgk D p q k) j = if j = D - 1 then q else dg k j := by
    intro j hj
    rw [hk]
    rcases (show j = 0 ∨ j = 1 ∨ j = 2 by omega) with rfl | rfl | rfl
    · rw [d0, ha]
    · rw [d1, hb']
    · rw [d2, hc]
  have hnz : ∀ j, j < D → dg k j ≠ 0 := fun j hj => by rw [hb j hj]; have := hp j hj; omega
  have ez : ∀ j, j < 3 → (dg (tgk D p q k) j = 0 ↔ dg k j = 0) := by
    intro j hj
    rw [hd j hj]
    by_cases h : j = D - 1
    · rw [if_pos h]
      have := hnz j (by omega)
      omega
    · rw [if_neg h]
  have e1 := ez 1 (by omega)
  have e2 := ez 2 (by omega)
  have hkt := kl_cases (tgk D p q k)
  have hkk := kl_cases k
  refine ⟨⟨by rw [hk]; omega, ?_, ?_, ?_, ?_, ?_⟩, by omega, hd⟩
  · rw [hk, d0, ha]; split <;> omega
  · rw [hk, d0]; omega
  · rw [hk, d1]; omega
  · rw [hk, d2]; omega
  · rw [e1, e2]; exact v5
theorem twin_iff {k t : Nat} (hk : vk k) (ht : vk t) : (kl k = kl t ∧ ∀ j, j < kl t → dg k j = dg t j) ↔ k = t := by
  constructor
  · rintro ⟨h1, h2⟩
    refine dg_ext hk.1 ht.1 (fun j hj => ?_)
    by_cases h : j < kl t
    · exact h2 j h
    · rw [dg_z hk hj (by omega), dg_z ht hj h]
  · rintro rfl; exact ⟨rfl, fun _ _ => rfl⟩
set_option maxHeartbeats 4000000 in
theorem twin_ok {D q i : Nat} {p : Nat → Nat} {ms : List (Nat × Int32)} {e : Nat × Int32} {li le vs : Nat → Int32} {nd : Int32} (hD1 : 1 ≤ D) (hD : D ≤ 3) (hp : ∀ j, j < D → 1 ≤ p j ∧ p j ≤ 101) (hq : 1 ≤ q ∧ q ≤ 101) (h : MI ms li le vs nd) (hi : ms[i]? = some e) (hr : kof p D ≤ e.1 ∧ e.1 < eof p D) {K : Int32 → Prop}
    (h1 : ∀ j x, ms[j]? = some x → x.1 = tgk D p q e.1 → K (nI j)) (h0 : (∀ x ∈ ms, x.1 ≠ tgk D p q e.1) → K (-1)) : X1_twin_w li le nd (nI i) (nI (D - 1)) (nI q - 51) K := by
  obtain ⟨rfl, h60, hre, hvk, hnd⟩ := h
  have hil := ix_lt hi
  have hrei := hre i e hi
  have hve := hvk e (ix_mem hi)
  have hke := kl_le e.1
  obtain ⟨htv, htk, htd⟩ := tg_dg hD1 hD hp hq hve hr
  generalize htg : tgk D p q e.1 = t at *
  unfold X1_twin_w
  refine ⟨fun x => ∃ j, x = nI j ∧ j ≤ ms.length ∧ ∀ j' x, j' < j → ms[j']? = some x → x.1 ≠ t, fun x => 60 - x.toNatClampNeg, ⟨0, rfl, by omega, by omega⟩, ?_⟩
  rintro x ⟨j, rfl, hj, hall⟩
  rw [nI_leI (by omega) (by omega)]
  refine ⟨fun h => h0 (fun x hx => ?_), fun h => ?_⟩
  · obtain ⟨j', hj'⟩ := List.mem_iff_getElem?.mp hx
    exact hall j' x (by have := ix_lt hj'; omega) hj'
  · obtain ⟨c, hc⟩ := ix_get (l := ms) (i := j) (by omega)
    have hrej := hre j c hc
    have hvc := hvk c (ix_mem hc)
    have hkc := kl_le c.1
    have htw := twin_iff hvc htv
    rw [nI_clamp (by omega), nI_clamp (by omega), hrej.1, hrei.1, nI_eq (by omega) (by omega)]
    refine ⟨fun x5 => (x5 = 1 ∧ kl c.1 = kl e.1) ∨ (x5 = 0 ∧ kl c.1 ≠ kl e.1), ?_, vin (by omega) (by omega), vin (by omega) (by omega), fun h2 => Or.inr ⟨rfl, h2⟩, fun h2 => Or.inl ⟨rfl, h2⟩⟩
    intro x5 hx5
    refine ⟨fun x5 x6 => ∃ m, x6 = nI m ∧ m ≤ kl e.1 ∧ ((x5 = 1 ∧ kl c.1 = kl e.1 ∧ ∀ m', m' < m → dg c.1 m' = dg t m') ∨ (x5 = 0 ∧ c.1 ≠ t)), fun _ x6 => 3 - x6.toNatClampNeg, ⟨0, rfl, by omega, ?_⟩, ?_⟩
    · rcases hx5 with ⟨h2, h3⟩ | ⟨h2, h3⟩
      · exact Or.inl ⟨h2, h3, by omega⟩
      · refine Or.inr ⟨h2, fun h4 => h3 ?_⟩
        rw [h4]; exact htk
    rintro x5 x6 ⟨m, rfl, hm, hsame⟩
    rw [nI_leI (by omega) (by omega)]
    refine ⟨vin (by omega) (by omega), fun h2 => ?_, fun h2 => ?_⟩
    · obtain rfl : m = kl e.1 := by omega
      rcases hsame with ⟨rfl, h3, h4⟩ | ⟨rfl, h3⟩
      · refine ⟨fun hn => absurd hn (by decide), fun _ => h1 j c hc (htw.mp ⟨by omega, fun m' hm' => h4 m' (by omega)⟩)⟩
      · refine ⟨fun _ => ?_, fun hn => absurd rfl hn⟩
        simp (disch := omega) only [nI_1, nI_clamp]
        refine ⟨⟨j + 1, rfl, by omega, fun j' x hj' hx => ?_⟩, by omega⟩
        by_cases hjj : j' = j
        · subst hjj; rw [hc] at hx; cases hx; exact h3
        · exact hall j' x (by omega) hx
    · rw [nI_1]
      have hno : c.1 ≠ t → (∃ m_1, nI (m + 1) = nI m_1 ∧ m_1 ≤ kl e.1 ∧ (((0 : Int32) = 1 ∧ kl c.1 = kl e.1 ∧ ∀ m', m' < m_1 → dg c.1 m' = dg t m') ∨ ((0 : Int32) = 0 ∧ c.1 ≠ t))) ∧ 3 - (nI (m + 1)).toNatClampNeg < 3 - (nI m).toNatClampNeg := by
        intro h3
        rw [nI_clamp (by omega), nI_clamp (by omega)]
        exact ⟨⟨m + 1, rfl, by omega, Or.inr ⟨rfl, h3⟩⟩, by omega⟩
      rcases hsame with ⟨rfl, h3, h4⟩ | ⟨rfl, h3⟩
      · refine ⟨fun hn => absurd hn (by decide), fun _ => ?_⟩
        have hne : dg c.1 m ≠ dg t m → c.1 ≠ t := fun h5 h6 => h5 (by rw [h6])
        have hyes : dg c.1 m = dg t m → (∃ m_1, nI (m + 1) = nI m_1 ∧ m_1 ≤ kl e.1 ∧ (((1 : Int32) = 1 ∧ kl c.1 = kl e.1 ∧ ∀ m', m' < m_1 → dg c.1 m' = dg t m') ∨ ((1 : Int32) = 0 ∧ c.1 ≠ t))) ∧ 3 - (nI (m + 1)).toNatClampNeg < 3 - (nI m).toNatClampNeg := by
          intro h5
          rw [nI_clamp (by omega), nI_clamp (by omega)]
          refine ⟨⟨m + 1, rfl, by omega, Or.inl ⟨rfl, h3, fun m' hm' => ?_⟩⟩, by omega⟩
          by_cases hmm : m' = m
          · rw [hmm]; exact h5
          · exact h4 m' (by omega)
        have b1 := dg_lt c.1 m
        have b2 := dg_lt e.1 m
        have e1 : nI j * 3 + nI m = nI (j * 3 + m) := by rw [k3, pk_mul, nI_add]
        have e2 : nI i * 3 + nI m = nI (i * 3 + m) := by rw [k3, pk_mul, nI_add]
        rw [e1, e2, nI_clamp (n := j * 3 + m) (by omega), nI_clamp (n := i * 3 + m) (by omega), hrej.at (by omega), hrei.at (by omega), nI_eq (by omega) (by omega), (dgI (by omega) (by omega)).1, (dgI (by omega) (by omega)).1]
        have htm := htd m (by omega)
        refine ⟨vin (by omega) (by omega), fun h5 => ⟨vin (by omega) (by omega), ?_⟩, fun h5 => ?_⟩
        · rw [if_neg h5] at htm
          exact ⟨fun h6 => hno (hne (by rw [htm]; exact h6)), fun h6 => hyes (by rw [htm]; exact h6)⟩
        · rw [if_pos h5] at htm
          exact ⟨fun h6 => hno (hne (by rw [htm]; exact h6)), fun h6 => hyes (by rw [htm]; exact h6)⟩
      · exact ⟨fun _ => hno h3, fun hn => absurd rfl hn⟩
set_option maxHeartbeats 4000000 in
theorem place_ok {D q i : Nat} {p : Nat → Nat} {ms : List (Nat × Int32)} {e : Nat × Int32} {li le vs : Nat → Int32} {nd : Int32} (hD1 : 1 ≤ D) (hD : D ≤ 3) (hp : ∀ j, j < D → 1 ≤ p j ∧ p j ≤ 101) (hq : 1 ≤ q ∧ q ≤ 101) (h : MI ms li le vs nd) (hi : ms[i]? = some e) (hr : kof p D ≤ e.1 ∧ e.1 < eof p D) (hroom : (∀ x ∈ ms, x.1 ≠ tgk D p q e.1) → ms.length < 60) {K : (Nat → Int32) → (Nat → Int32) → (Nat → Int32) → Int32 → Prop}
    (hK : ∀ ms' li' le' vs' nd', MI ms' li' le' vs' nd' → (∀ x, x ∈ ms' ↔ x = (tgk D p q e.1, e.2) ∨ (x ∈ ms ∧ x.1 ≠ tgk D p q e.1)) → (∀ (j : Nat) (x : Nat × Int32), ms[j]? = some x → ∃ v, ms'[j]? = some (x.1, v) ∧ (x.1 ≠ tgk D p q e.1 → v = x.2)) → ((∀ x ∈ ms, x.1 ≠ tgk D p q e.1) → ms'.length = ms.length + 1) → ((∃ x ∈ ms, x.1 = tgk D p q e.1) → ms'.length = ms.length) → K li' le' vs' nd') : X1_place_w li le vs nd (nI D) (nI i) (nI q - 51) K := by
  have hMI := h
  obtain ⟨hn0, h60, hre, hvk, hnd⟩ := h
  have hil := ix_lt hi
  have hrei := hre i e hi
  have hve := hvk e (ix_mem hi)
  have hke := kl_le e.1
  obtain ⟨htv, htk, htd⟩ := tg_dg hD1 hD hp hq hve hr
  have hDk : D ≤ kl e.1 := by
    have hb := (bg_iff hD hp hve.1).mpr hr (D - 1) (by omega)
    have := hp (D - 1) (by omega)
    have := (dg_kl (j := D - 1) hve (by omega)).mpr (by omega)
    omega
  unfold X1_place_w
  rw [k1, pk_sub hD1]
  refine twin_ok hD1 hD hp hq hMI hi hr (fun j x hj hx => ?_) (fun hab => ?_)
  · have hjl := ix_lt hj
    refine ⟨fun x3 li2 le2 nd2 => x3 = nI j ∧ li2 = li ∧ le2 = le ∧ nd2 = nd, ?_, fun _ => ⟨rfl, rfl, rfl, rfl⟩, fun hn => absurd (nI_pos' (by omega)) hn⟩
    rintro _ _ _ _ ⟨rfl, rfl, rfl, rfl⟩
    rw [nI_clamp (by omega), nI_clamp (by omega), hrei.2.1]
    obtain ⟨hMI', hmem⟩ := hMI.put hj e.2
    rw [hx] at hMI' hmem
    refine ⟨vin (by omega) (by omega), vin (by omega) (by omega), hK _ _ _ _ _ hMI' hmem (fun j' y hj' => ?_) (fun hab => absurd hx (hab x (ix_mem hj))) (fun _ => by rw [List.length_set])⟩
    by_cases hjj : j = j'
    · subst hjj
      rw [hj] at hj'
      cases hj'
      exact ⟨e.2, by rw [List.getElem?_set_self hjl, hx], fun hne => absurd hx hne⟩
    · exact ⟨y.2, by rw [List.getElem?_set_ne hjj]; exact hj', fun _ => rfl⟩
  · have hl := hroom hab
    generalize htg : tgk D p q e.1 = t at *
    refine ⟨fun x3 li2 le2 nd2 => x3 = nI ms.length ∧ le2 = upd le ms.length (le i) ∧ nd2 = nd + 1 ∧ (∀ z, z < ms.length * 3 → li2 z = li z) ∧ (∀ z, z < kl t → li2 (ms.length * 3 + z) = nI (dg t z) - 51), ?_, fun hn => absurd hn (by decide), fun _ => ?_⟩
    · rintro x3 li2 le2 nd2 ⟨rfl, rfl, rfl, hlo, hhi⟩
      rw [nI_clamp (by omega), nI_clamp (by omega), hrei.2.1]
      have hr2 : RE li2 (upd le ms.length (le i)) (upd vs ms.length e.2) ms.length (t, e.2) := by
        refine ⟨by rw [upd_s, hrei.1]; exact congrArg nI htk.symm, by rw [upd_s], fun z hz => hhi z hz⟩
      have hold : ∀ i' x, i' < ms.length → RE li le vs i' x → RE li2 (upd le ms.length (le i)) (upd vs ms.length e.2) i' x := by
        intro i' x hi' hx
        have := kl_le x.1
        exact ⟨by rw [upd_n (by omega)]; exact hx.1, by rw [upd_n (by omega)]; exact hx.2.1, fun z hz => by rw [hlo _ (by omega)]; exact hx.2.2 z hz⟩
      obtain ⟨hMI', hmem⟩ := hMI.add hr2 hold htv hab hl
      refine ⟨vin (by omega) (by omega), vin (by omega) (by omega), hK _ _ _ _ _ hMI' hmem (fun j' y hj' => ⟨y.2, ixL hj', fun _ => rfl⟩) (fun _ => by rw [List.length_append]; rfl) ?_⟩
      rintro ⟨x, hx, hxt⟩
      exact absurd hxt (hab x hx)
    · refine ⟨fun x li6 => ∃ m, x = nI m ∧ m ≤ 3 ∧ (∀ z, z < ms.length * 3 → li6 z = li z) ∧ (∀ z, z < m → z < kl t → li6 (ms.length * 3 + z) = nI (dg t z) - 51), fun x _ => 3 - x.toNatClampNeg, ⟨0, rfl, by omega, fun _ _ => rfl, by omega⟩, ?_⟩
      rintro x li6 ⟨m, rfl, hm, hlo, hhi⟩
      rw [hn0]
      simp (disch := omega) only [nI_leI, nI_clamp, k3, pk_mul, nI_add, nI_1, nI_eq]
      have hkt := kl_le t
      refine ⟨fun h2 => ⟨vin (by omega) (by omega), vin (by omega) (by omega), trivial, trivial, trivial, hlo, fun z hz => hhi z (by omega) hz⟩, fun h2 => ?_⟩
      have htm := htd m (by omega)
      refine ⟨fun h3 => ⟨vin (by omega) (by omega), vin (by omega) (by omega), ⟨m + 1, rfl, by omega, fun z hz => ?_, fun z hz hzt => ?_⟩, by omega⟩, fun h3 => ⟨vin (by omega) (by omega), ⟨m + 1, rfl, by omega, fun z hz => ?_, fun z hz hzt => ?_⟩, by omega⟩⟩
      · rw [upd_n (by omega)]; exact hlo z hz
      · by_cases hzm : z = m
        · subst hzm
          rw [upd_s, hlo _ (by omega), hrei.at (by omega), htm, if_neg h3]
        · rw [upd_n (by omega)]; exact hhi z (by omega) hzt
      · rw [upd_n (by omega)]; exact hlo z hz
      · by_cases hzm : z = m
        · subst hzm
          rw [upd_s, htm, if_pos h3]
        · rw [upd_n (by omega)]; exact hhi z (by omega) hzt
theorem tg_self {D q k : Nat} {p : Nat → Nat} (hD1 : 1 ≤ D) (hD : D ≤ 3) (hp : ∀ j, j < D → 1 ≤ p j ∧ p j ≤ 101) (hq : 1 ≤ q ∧ q ≤ 101) (hv : vk k) (hr : kof p D ≤ k ∧ k < eof p D) (ht : kof p D ≤ tgk D p q k ∧ tgk D p q k < eof p D) : tgk D p q k = k := by
  obtain ⟨htv, htk, htd⟩ := tg_dg hD1 hD hp hq hv hr
  have h1 := (bg_iff hD hp htv.1).mpr ht (D - 1) (by omega)
  rw [htd (D - 1) (by omega), if_pos rfl] at h1
  unfold tgk
  rw [h1]
  omega
set_option maxHeartbeats 8000000 in
theorem m_merge {D q : Nat} {p : Nat → Nat} {ms : List (Nat × Int32)} {li le vs po : Nat → Int32} {nd dp z : Int32} (hp : PM D p dp po) (hD1 : 1 ≤ D) (h : MI ms li le vs nd) (hq : 1 ≤ q ∧ q ≤ 101) (hz : okS z) (hzq : z = nI q - 51) {K : Int32 → (Nat → Int32) → (Nat → Int32) → (Nat → Int32) → Int32 → Prop}
    (hFull : 60 < ms.length + (ms.filter (rg (kof p D) (eof p D))).countP (fun e => ab ms (tgk D p q e.1)) → K (-2) li le vs nd)
    (hOk : ms.length + (ms.filter (rg (kof p D) (eof p D))).countP (fun e => ab ms (tgk D p q e.1)) ≤ 60 → ∀ ms' li' le' vs' nd', MI ms' li' le' vs' nd' → (∀ x, x ∈ ms' ↔ (∃ y ∈ ms.filter (rg (kof p D) (eof p D)), x = (tgk D p q y.1, y.2)) ∨ (x ∈ ms ∧ ∀ y ∈ ms.filter (rg (kof p D) (eof p D)), tgk D p q y.1 ≠ x.1)) → K (nI (ms.filter (rg (kof p D) (eof p D))).length) li' le' vs' nd') : X1_merge_w li le vs nd po dp z K := by
  have hMI := h
  obtain ⟨hn0, h60, hre, hvk, hnd⟩ := h
  obtain ⟨hD, rfl, hpb, hpo⟩ := hp
  have htin : ∀ k k', kof p D ≤ k → k < eof p D → kof p D ≤ k' → k' < eof p D → tgk D p q k = tgk D p q k' → k = k' := by
    intro k k' h1 h2 h3 h4 h5
    have := (tgk_facts hD1 hD hpb hq h1 h2).1
    have := (tgk_facts hD1 hD hpb hq h3 h4).1
    unfold tgk at h5
    omega
  unfold X1_merge_w
  rw [k0, nI_eq (by omega) (by omega)]
  refine ⟨fun _ => isSub_yes hz ⟨fun _ => ?_, fun hn => absurd hn (by decide)⟩, fun hd => absurd hd (by omega)⟩
  generalize hf : rg (kof p D) (eof p D) = f at *
  have hfi : ∀ e, f e = true ↔ kof p D ≤ e.1 ∧ e.1 < eof p D := fun e => by rw [← hf]; exact rg_iff
  have hcl : ∀ i, ((ms.take i).filter f).countP (fun e => ab ms (tgk D p q e.1)) ≤ ((ms.take i).filter f).length ∧ ((ms.take i).filter f).length ≤ i := fun i => ⟨List.countP_le_length, Nat.le_trans (List.length_filter_le _ _) (by rw [List.length_take]; omega)⟩
  refine ⟨fun x3 x4 x5 => ∃ i, x5 = nI i ∧ i ≤ ms.length ∧ x3 = nI ((ms.take i).filter f).length ∧ x4 = nI (((ms.take i).filter f).countP (fun e => ab ms (tgk D p q e.1))), fun _ _ x5 => 60 - x5.toNatClampNeg, ⟨0, rfl, by omega, rfl, rfl⟩, ?_⟩
  rintro x3 x4 x5 ⟨i, rfl, hi, rfl, rfl⟩
  have hcli := hcl i
  rw [hn0, nI_add, k60, nI_leI (by omega) (by omega), nI_leI (by omega) (by omega)]
  refine ⟨fun h => ?_, fun h => ?_⟩
  · obtain rfl : i = ms.length := by omega
    rw [List.take_length] at hcli ⊢
    refine ⟨fun h2 => ?_, fun h2 => by rw [← hn0]; exact hFull (by omega)⟩
    have hOk := hOk h2
    clear hFull
    refine ⟨fun x5 li' le' vs' nd' => ∃ i ms', x5 = nI i ∧ i ≤ ms.length ∧ MI ms' li' le' vs' nd' ∧ ms'.length = ms.length + ((ms.take i).filter f).countP (fun e => ab ms (tgk D p q e.1)) ∧ (∀ x, x ∈ ms' ↔ (∃ y ∈ (ms.take i).filter f, x = (tgk D p q y.1, y.2)) ∨ (x ∈ ms ∧ ∀ y ∈ (ms.take i).filter f, tgk D p q y.1 ≠ x.1)) ∧ (∀ (j : Nat) (x : Nat × Int32), ms[j]? = some x → ∃ v, ms'[j]? = some (x.1, v) ∧ (f x = true → v = x.2)), fun x5 _ _ _ _ => 60 - x5.toNatClampNeg, ⟨0, ms, rfl, by omega, by rw [← hn0]; exact hMI, by simp, fun x => by simp, fun j x hj => ⟨x.2, hj, fun _ => rfl⟩⟩, ?_⟩
    rintro x5 li' le' vs' nd' ⟨i, ms', rfl, hi, hMI', hlen', hmem', hsrc⟩
    rw [nI_leI (by omega) (by omega)]
    refine ⟨fun h3 => ?_, fun h3 => ?_⟩
    · obtain rfl : i = ms.length := by omega
      rw [List.take_length] at hmem'
      exact hOk ms' _ _ _ _ hMI' hmem'
    · obtain ⟨e, he⟩ := ix_get (l := ms) (i := i) (by omega)
      obtain ⟨v, hev, hvs⟩ := hsrc i e he
      have hve := hvk e (ix_mem he)
      have hstep : (ms.take (i + 1)).filter f = (ms.take i).filter f ++ if f e = true then [e] else [] := by
        rw [take_snoc he, List.filter_append, List.filter_cons, List.filter_nil]
      have hfe : rg (kof p D) (eof p D) (e.1, v) = f e := by rw [hf, Bool.eq_iff_iff, hfi, hfi]
      simp (disch := omega) only [nI_1, nI_clamp]
      refine begins_ok (e := (e.1, v)) hD hpb hpo (by omega) (hMI'.2.2.1 i _ hev) hve (fun h4 => ⟨fun hn => absurd hn (by decide), fun _ => ?_⟩) (fun h4 => ⟨fun _ => ?_, fun hn => absurd rfl hn⟩)
      · rw [hfe] at h4
        have hv2 : v = e.2 := hvs h4
        subst hv2
        have her := (hfi e).mp h4
        rw [h4, if_pos rfl] at hstep
        have hcle : ((ms.take (i + 1)).filter f).countP (fun e => ab ms (tgk D p q e.1)) ≤ (ms.filter f).countP (fun e => ab ms (tgk D p q e.1)) := by
          have gen : ∀ (g : Nat × Int32 → Bool), ((ms.take (i + 1)).filter f).countP g ≤ (ms.filter f).countP g := by
            intro g
            conv => rhs; rw [← List.take_append_drop (i + 1) ms, List.filter_append, List.countP_append]
            omega
          exact gen _
        have hct : ((ms.take (i + 1)).filter f).countP (fun e => ab ms (tgk D p q e.1)) = ((ms.take i).filter f).countP (fun e => ab ms (tgk D p q e.1)) + (if ab ms (tgk D p q e.1) = true then 1 else 0) := by
          rw [hstep, List.countP_append, List.countP_singleton]
        have hdis : ∀ y ∈ (ms.take i).filter f, tgk D p q y.1 ≠ tgk D p q e.1 := by
          intro y hy hyt
          obtain ⟨hy1, hy2⟩ := List.mem_filter.mp hy
          obtain ⟨j, hj, hjy⟩ := mem_take_ix hy1
          have hyr := (hfi y).mp hy2
          exact pw_ix hnd hjy he hj (htin _ _ hyr.1 hyr.2 her.1 her.2 hyt)
        have hpre : (∀ x ∈ ms', x.1 ≠ tgk D p q e.1) ↔ ab ms (tgk D p q e.1) = true := by
          rw [ab_iff]
          constructor
          · intro hx x hxe hxt
            exact hx x ((hmem' x).mpr (Or.inr ⟨hxe, fun y hy hyt => hdis y hy (hyt.trans hxt)⟩)) hxt
          · intro hx x hxe hxt
            rcases (hmem' x).mp hxe with ⟨y, hy, rfl⟩ | ⟨hx1, hx2⟩
            · exact hdis y hy hxt
            · exact hx x hx1 hxt
        rw [hzq]
        refine place_ok hD1 hD hpb hq hMI' hev her (fun ha => ?_) (fun ms2 li2 le2 vs2 nd2 hMI2 hmem2 hpos2 hlA hlB => ⟨⟨i + 1, ms2, rfl, by omega, hMI2, ?_, fun x => ?_, fun j x hj => ?_⟩, by omega⟩)
        · rw [hpre.mp ha, if_pos rfl] at hct
          omega
        · by_cases ha : ab ms (tgk D p q e.1) = true
          · rw [hct, if_pos ha, hlA (hpre.mpr ha)]; omega
          · rw [hct, if_neg ha, hlB ?_]
            · omega
            · have h7 : ¬ ∀ x ∈ ms', x.1 ≠ tgk D p q e.1 := fun h8 => ha (hpre.mp h8)
              simp only [Classical.not_forall, Classical.not_not, not_imp] at h7
              obtain ⟨x, hx, hxt⟩ := h7
              exact ⟨x, hx, hxt⟩
        · rw [hmem2, hmem', hstep]
          simp only [List.mem_append, List.mem_singleton]
          constructor
          · rintro (rfl | ⟨⟨y, hy, rfl⟩ | ⟨hx1, hx2⟩, hne⟩)
            · exact Or.inl ⟨e, Or.inr rfl, rfl⟩
            · exact Or.inl ⟨y, Or.inl hy, rfl⟩
            · refine Or.inr ⟨hx1, fun y hy => ?_⟩
              rcases hy with hy | rfl
              · exact hx2 y hy
              · exact fun h => hne h.symm
          · rintro (⟨y, hy | rfl, rfl⟩ | ⟨hx1, hx2⟩)
            · exact Or.inr ⟨Or.inl ⟨y, hy, rfl⟩, hdis y hy⟩
            · exact Or.inl rfl
            · exact Or.inr ⟨Or.inr ⟨hx1, fun y hy => hx2 y (Or.inl hy)⟩, fun h => hx2 e (Or.inr rfl) h.symm⟩
        · obtain ⟨w, hw1, hw2⟩ := hsrc j x hj
          obtain ⟨w', hw3, hw4⟩ := hpos2 j (x.1, w) hw1
          refine ⟨w', hw3, fun hfx => ?_⟩
          by_cases hxt : x.1 = tgk D p q e.1
          · have hmm := (hmem2 (x.1, w')).mp (ix_mem hw3)
            have hw5 : w' = e.2 := by
              rcases hmm with hmm | ⟨-, hmm⟩
              · exact congrArg Prod.snd hmm
              · exact absurd hxt hmm
            have hxr := (hfi x).mp hfx
            have := tg_self hD1 hD hpb hq hve her (by rw [← hxt]; exact hxr)
            have hji := key_uniq hnd hj he (hxt.trans this)
            subst hji
            rw [hj] at he
            cases he
            exact hw5
          · rw [hw4 hxt]; exact hw2 hfx
      · rw [hfe] at h4
        rw [h4] at hstep
        simp at hstep
        exact ⟨⟨i + 1, ms', rfl, by omega, hMI', by rw [hstep]; exact hlen', by rw [hstep]; exact hmem', hsrc⟩, by omega⟩
  · obtain ⟨e, he⟩ := ix_get (l := ms) (i := i) (by omega)
    have hve := hvk e (ix_mem he)
    have hstep : (ms.take (i + 1)).filter f = (ms.take i).filter f ++ if f e = true then [e] else [] := by
      rw [take_snoc he, List.filter_append, List.filter_cons, List.filter_nil]
    simp (disch := omega) only [nI_1, nI_clamp]
    refine begins_ok hD hpb hpo (by omega) (hre i e he) hve (fun h4 => ⟨fun hn => absurd hn (by decide), fun _ => ?_⟩) (fun h4 => ⟨fun _ => ?_, fun hn => absurd rfl hn⟩)
    · rw [hf] at h4
      rw [h4, if_pos rfl] at hstep
      rw [hzq, show (nI D - 1 : Int32) = nI (D - 1) from pk_sub hD1]
      have hMI2 : MI ms li le vs (nI ms.length) := by rw [← hn0]; exact hMI
      refine twin_ok hD1 hD hpb hq hMI2 he ((hfi e).mp h4) (fun j x hj hx => ⟨fun _ => ⟨⟨i + 1, rfl, by omega, ?_, ?_⟩, by omega⟩, fun hn => absurd (nI_pos' (by have := ix_lt hj; omega)) hn⟩) (fun hab => ⟨fun hn => absurd hn (by decide), fun _ => ⟨⟨i + 1, rfl, by omega, ?_, ?_⟩, by omega⟩⟩)
      · rw [hstep, List.length_append, List.length_singleton]
      · rw [hstep, List.countP_append, List.countP_singleton, if_neg, Nat.add_zero]
        intro ha
        exact ab_iff.mp ha x (ix_mem hj) hx
      · rw [hstep, List.length_append, List.length_singleton]
      · rw [hstep, List.countP_append, List.countP_singleton, if_pos (ab_iff.mpr hab)]
    · rw [hf] at h4
      rw [h4] at hstep
      simp at hstep
      exact ⟨⟨i + 1, rfl, by omega, by rw [hstep], by rw [hstep]⟩, by omega⟩
end
section
/-! THE RELATION between the class and its reference, and that every call keeps it -/
def LI (dep : Int32) (sub : Nat → Int32) (lv : Int32) (siz : Nat → Int32) (ky : Nat → Int32) (va : Nat → Int32) (tot : Int32) (lf : Int32) (sl : Int32) (mk : Nat → Int32) (mv : Nat → Int32) (pk : Nat → Int32) (pv : Nat → Int32) (li : Nat → Int32) (le : Nat → Int32) (vs : Nat → Int32) (nd : Int32) (po : Nat → Int32) (dp : Int32) : Prop :=
  ∃ (D : Nat) (p : Nat → Nat) (es ms : List (Nat × Int32)), PT D p dep sub ∧ PM D p dp po ∧ TI es lv siz ky va tot ∧ MI ms li le vs nd ∧ ∀ x, x ∈ es ↔ x ∈ ms
theorem perm_of {es ms : List (Nat × Int32)} {lv tot nd : Int32} {siz ky va li le vs : Nat → Int32} (hT : TI es lv siz ky va tot) (hM : MI ms li le vs nd) (h : ∀ x, x ∈ es ↔ x ∈ ms) : es.Perm ms := by
  refine (List.perm_ext_iff_of_nodup ?_ ?_).mpr h
  · exact hT.sorted.imp (fun {a b} hab => fun hab2 => by rw [hab2] at hab; omega)
  · exact hM.2.2.2.2.imp (fun {a b} hab => fun hab2 => hab (by rw [hab2]))
theorem uniq_es {es : List (Nat × Int32)} {lv tot : Int32} {siz ky va : Nat → Int32} (hT : TI es lv siz ky va tot) {a b : Nat × Int32} (ha : a ∈ es) (hb : b ∈ es) (h : a.1 = b.1) : a = b := by
  obtain ⟨i, hi⟩ := List.mem_iff_getElem?.mp ha
  obtain ⟨j, hj⟩ := List.mem_iff_getElem?.mp hb
  rcases Nat.lt_trichotomy i j with h1 | h1 | h1
  · have := pw_ix hT.sorted hi hj h1; omega
  · subst h1; rw [hi] at hj; exact Option.some.inj hj
  · have := pw_ix hT.sorted hj hi h1; omega
theorem dg_mono {p : Nat → Nat} {n k k' : Nat} (hn : n < 3) (hp : ∀ j, j < n → 1 ≤ p j ∧ p j ≤ 101) (hkl : k < 2097152) (hkl' : k' < 2097152) (hk : kof p n ≤ k ∧ k < eof p n) (hk' : kof p n ≤ k' ∧ k' < eof p n) (h : k ≤ k') : dg k n ≤ dg k' n := by
  have h1 := (bg_iff (by omega) hp hkl).mpr hk
  have h2 := (bg_iff (by omega) hp hkl').mpr hk'
  rcases Nat.lt_or_ge (dg k' n) (dg k n) with h3 | h3
  · have := dg_lex hkl' hkl hn (fun i hi => by rw [h1 i hi, h2 i hi]) h3
    omega
  · exact h3
def pu (p : Nat → Nat) (D q : Nat) : Nat → Nat := fun j => if j = D then q else p j
theorem pu_s {p : Nat → Nat} {D q j : Nat} (h : j = D) : pu p D q j = q := by unfold pu; rw [if_pos h]
theorem pu_n {p : Nat → Nat} {D q j : Nat} (h : ¬ j = D) : pu p D q j = p j := by unfold pu; rw [if_neg h]
section LK
variable {dep : Int32} {sub : Nat → Int32} {lv : Int32} {siz : Nat → Int32} {ky : Nat → Int32} {va : Nat → Int32} {tot : Int32} {lf : Int32} {sl : Int32} {mk : Nat → Int32} {mv : Nat → Int32} {pk : Nat → Int32} {pv : Nat → Int32} {li : Nat → Int32} {le : Nat → Int32} {vs : Nat → Int32} {nd : Int32} {po : Nat → Int32} {dp : Int32}
theorem L_down (h : LI dep sub lv siz ky va tot lf sl mk mv pk pv li le vs nd po dp) (z : Int32) : K_down LI dep sub lv siz ky va tot lf sl mk mv pk pv li le vs nd po dp z := by
  have hLI := h
  obtain ⟨D, p, es, ms, ⟨hD, rfl, hpb, hps⟩, ⟨-, rfl, -, hpo⟩, hT, hM, hx⟩ := h
  unfold K_down X0_down_w X1_down_w
  by_cases hz : okS z
  · obtain ⟨q, hq1, hq2, hzq, hzq2⟩ := okS_q hz
    refine bad_no hz ⟨fun _ => ?_, fun hn => absurd rfl hn⟩
    rw [k3, nI_ltI (by omega) (by omega)]
    refine ⟨fun hd => ⟨vin hd (by omega), isSub_yes hz ⟨fun _ => ?_, fun hn => absurd hn (by decide)⟩⟩, fun hd => isSub_yes hz ⟨fun _ => ?_, fun hn => absurd hn (by decide)⟩⟩
    · rw [nI_eq (by omega) (by omega), nI_clamp (by omega), nI_1, hzq2]
      refine ⟨fun _ => ⟨vin hd (by omega), rfl, D + 1, pu p D q, es, ms, ⟨by omega, rfl, fun j hj => ?_, fun j hj => ?_⟩, ⟨by omega, rfl, fun j hj => ?_, fun j hj => ?_⟩, hT, hM, hx⟩, fun h3 => absurd h3 (by omega)⟩
      · by_cases hjD : j = D
        · rw [pu_s hjD]; omega
        · rw [pu_n hjD]; exact hpb j (by omega)
      · by_cases hjD : j = D
        · rw [pu_s hjD, hjD, upd_s]
        · rw [pu_n hjD, upd_n hjD]; exact hps j (by omega)
      · by_cases hjD : j = D
        · rw [pu_s hjD]; omega
        · rw [pu_n hjD]; exact hpb j (by omega)
      · by_cases hjD : j = D
        · rw [pu_s hjD, hjD, upd_s]; exact hzq
        · rw [pu_n hjD, upd_n hjD]; exact hpo j (by omega)
    · rw [nI_eq (by omega) (by omega)]
      exact ⟨fun h3 => absurd (by omega) h3, fun _ => ⟨rfl, hLI⟩⟩
  · exact bad_yes hz ⟨fun hn => absurd hn (by decide), fun _ => isSub_no hz ⟨fun hn => absurd rfl hn, fun _ => ⟨rfl, hLI⟩⟩⟩
theorem L_up (h : LI dep sub lv siz ky va tot lf sl mk mv pk pv li le vs nd po dp) : K_up LI dep sub lv siz ky va tot lf sl mk mv pk pv li le vs nd po dp := by
  have hLI := h
  obtain ⟨D, p, es, ms, ⟨hD, rfl, hpb, hps⟩, ⟨-, rfl, -, hpo⟩, hT, hM, hx⟩ := h
  unfold K_up X0_up_w X1_up_w
  rw [k0, nI_eq (by omega) (by omega)]
  refine ⟨fun hd => ⟨fun _ => ⟨rfl, ?_⟩, fun h0 => absurd h0 hd⟩, fun hd => ⟨fun h0 => absurd hd h0, fun _ => ⟨rfl, hLI⟩⟩⟩
  rw [k1, pk_sub (by omega)]
  exact ⟨D - 1, p, es, ms, ⟨by omega, rfl, fun j hj => hpb j (by omega), fun j hj => hps j (by omega)⟩, ⟨by omega, rfl, fun j hj => hpb j (by omega), fun j hj => hpo j (by omega)⟩, hT, hM, hx⟩
theorem L_turn (h : LI dep sub lv siz ky va tot lf sl mk mv pk pv li le vs nd po dp) (z : Int32) : K_turn LI dep sub lv siz ky va tot lf sl mk mv pk pv li le vs nd po dp z := by
  have hLI := h
  obtain ⟨D, p, es, ms, ⟨hD, rfl, hpb, hps⟩, ⟨-, rfl, -, hpo⟩, hT, hM, hx⟩ := h
  unfold K_turn X0_turn_w X1_turn_w
  rw [k0, nI_eq (by omega) (by omega)]
  refine ⟨fun hd => ?_, fun hd => ⟨fun h0 => absurd hd h0, fun _ => ⟨rfl, hLI⟩⟩⟩
  by_cases hz : okS z
  · obtain ⟨q, hq1, hq2, hzq, hzq2⟩ := okS_q hz
    refine bad_no hz ⟨fun _ => ?_, fun hn => absurd rfl hn⟩
    rw [k1, pk_sub (by omega), nI_clamp (by omega), hps (D - 1) (by omega), hpo (D - 1) (by omega), hzq2]
    refine ⟨vin (by omega) (by omega), vin (by omega) (by omega), fun _ => isSub_yes hz ⟨fun _ => ⟨vin (by omega) (by omega), vin (by omega) (by omega), rfl, D, pu p (D - 1) q, es, ms, ⟨by omega, rfl, fun j hj => ?_, fun j hj => ?_⟩, ⟨by omega, rfl, fun j hj => ?_, fun j hj => ?_⟩, hT, hM, hx⟩, fun hn => absurd hn (by decide)⟩, fun h0 => absurd h0 hd⟩
    · by_cases hjD : j = D - 1
      · rw [pu_s hjD]; omega
      · rw [pu_n hjD]; exact hpb j (by omega)
    · by_cases hjD : j = D - 1
      · rw [pu_s hjD, hjD, upd_s]
      · rw [pu_n hjD, upd_n hjD]; exact hps j (by omega)
    · by_cases hjD : j = D - 1
      · rw [pu_s hjD]; omega
      · rw [pu_n hjD]; exact hpb j (by omega)
    · by_cases hjD : j = D - 1
      · rw [pu_s hjD, hjD, upd_s]; exact hzq
      · rw [pu_n hjD, upd_n hjD]; exact hpo j (by omega)
  · exact bad_yes hz ⟨fun hn => absurd hn (by decide), fun _ => ⟨fun _ => isSub_no hz ⟨fun hn => absurd rfl hn, fun _ => ⟨rfl, hLI⟩⟩, fun h0 => absurd h0 hd⟩⟩
theorem L_set (h : LI dep sub lv siz ky va tot lf sl mk mv pk pv li le vs nd po dp) (z : Int32) : K_set LI dep sub lv siz ky va tot lf sl mk mv pk pv li le vs nd po dp z := by
  obtain ⟨D, p, es, ms, hPT, hPM, hT, hM, hx⟩ := h
  have hperm := perm_of hT hM hx
  have hlen := hperm.length_eq
  unfold K_set
  refine tt_set hPT hT (fun hd => m_set hPM hM (fun _ => ⟨rfl, D, p, es, ms, hPT, hPM, hT, hM, hx⟩) (fun h1 => by omega) (fun h1 => by omega)) (fun hd hab hl lf sl => m_set hPM hM (fun h1 => by omega) (fun _ _ _ => ⟨rfl, D, p, es, ms, hPT, hPM, hT, hM, hx⟩) (fun _ r ms' li' le' vs' nd' hr _ _ => ?_)) (fun hd r es' lv' siz' ky' va' tot' lf' sl' pk' pv' hr hT' hmem => m_set hPM hM (fun h1 => by omega) (fun _ hab hl => ?_) (fun _ r' ms' li' le' vs' nd' hr' hM' hmem' => ⟨?_, D, p, es', ms', hPT, hPM, hT', hM', fun x => by rw [hmem, hmem', hx]⟩))
  · rcases hr with ⟨-, e, he, hek⟩ | ⟨-, -, hl2⟩
    · exact absurd hek (hab e ((hx e).mpr he))
    · omega
  · rcases hr with ⟨-, e, he, hek⟩ | ⟨-, -, hl2⟩
    · exact absurd hek (hab e ((hx e).mp he))
    · omega
  · rcases hr with ⟨h1, e, he, hek⟩ | ⟨h1, hab, -⟩
    · rcases hr' with ⟨h2, -⟩ | ⟨-, hab, -⟩
      · rw [h1, h2]
      · exact absurd hek (hab e ((hx e).mp he))
    · rcases hr' with ⟨-, e, he, hek⟩ | ⟨h2, -⟩
      · exact absurd hek (hab e ((hx e).mpr he))
      · rw [h1, h2]
theorem L_increment (h : LI dep sub lv siz ky va tot lf sl mk mv pk pv li le vs nd po dp) (z : Int32) : K_increment LI dep sub lv siz ky va tot lf sl mk mv pk pv li le vs nd po dp z := by
  obtain ⟨D, p, es, ms, hPT, hPM, hT, hM, hx⟩ := h
  have hperm := perm_of hT hM hx
  have hlen := hperm.length_eq
  unfold K_increment
  refine tt_increment hPT hT (fun hd => m_increment hPM hM (fun _ => ⟨rfl, D, p, es, ms, hPT, hPM, hT, hM, hx⟩) (fun h1 => by omega) (fun h1 => by omega)) (fun hd hab hl lf sl => m_increment hPM hM (fun h1 => by omega) (fun _ _ _ => ⟨rfl, D, p, es, ms, hPT, hPM, hT, hM, hx⟩) (fun _ r ms' li' le' vs' nd' hr _ _ => ?_)) (fun hd r es' lv' siz' ky' va' tot' lf' sl' pk' pv' hr hT' hmem => m_increment hPM hM (fun h1 => by omega) (fun _ hab hl => ?_) (fun _ r' ms' li' le' vs' nd' hr' hM' hmem' => ?_))
  · rcases hr with ⟨v, -, he⟩ | ⟨-, -, hl2⟩
    · exact absurd rfl (hab _ ((hx _).mpr he))
    · omega
  · rcases hr with ⟨v, -, he⟩ | ⟨-, -, hl2⟩
    · exact absurd rfl (hab _ ((hx _).mp he))
    · omega
  · have hrr : r = r' := by
      rcases hr with ⟨v, h1, he⟩ | ⟨h1, hab, -⟩
      · rcases hr' with ⟨v', h2, he'⟩ | ⟨-, hab, -⟩
        · have := uniq_es hT he ((hx _).mpr he') rfl
          have : v = v' := congrArg Prod.snd this
          rw [h1, h2, this]
        · exact absurd rfl (hab _ ((hx _).mp he))
      · rcases hr' with ⟨v, -, he⟩ | ⟨h2, -⟩
        · exact absurd rfl (hab _ ((hx _).mpr he))
        · rw [h1, h2]
    subst hrr
    exact ⟨rfl, D, p, es', ms', hPT, hPM, hT', hM', fun x => by rw [hmem, hmem', hx]⟩
theorem L_kill (h : LI dep sub lv siz ky va tot lf sl mk mv pk pv li le vs nd po dp) : K_kill LI dep sub lv siz ky va tot lf sl mk mv pk pv li le vs nd po dp := by
  obtain ⟨D, p, es, ms, hPT, hPM, hT, hM, hx⟩ := h
  have hperm := perm_of hT hM hx
  unfold K_kill
  refine kill_ok hPT hT (fun es' lv' siz' ky' va' tot' lf' sl' hT' he => m_kill hPM hM (fun ms' li' le' vs' nd' hM' hm => ⟨?_, D, p, es', ms', hPT, hPM, hT', hM', fun x => by rw [he, hm, List.mem_filter, List.mem_filter, hx]⟩))
  rw [he, hm, hperm.length_eq, (hperm.filter _).length_eq]
theorem ab_eq {es ms : List (Nat × Int32)} (hx : ∀ x, x ∈ es ↔ x ∈ ms) (k : Nat) : ab es k = ab ms k := by
  rw [Bool.eq_iff_iff, ab_iff, ab_iff]
  exact ⟨fun h e he => h e ((hx e).mpr he), fun h e he => h e ((hx e).mp he)⟩
theorem L_merge (h : LI dep sub lv siz ky va tot lf sl mk mv pk pv li le vs nd po dp) (z : Int32) : K_merge LI dep sub lv siz ky va tot lf sl mk mv pk pv li le vs nd po dp z := by
  have hLI := h
  obtain ⟨D, p, es, ms, hPT, hPM, hT, hM, hx⟩ := h
  have hperm := perm_of hT hM hx
  have hlen := hperm.length_eq
  unfold K_merge
  by_cases hd : D = 0
  · have h1 := hPT.2.1
    have h2 := hPM.2.1
    have h3 := hPT.1
    unfold X0_merge_w X1_merge_w
    rw [h1, h2, k0, nI_eq (by omega) (by omega)]
    exact ⟨fun hn => absurd hd hn, fun _ => ⟨fun hn => absurd hd hn, fun _ => ⟨rfl, D, p, es, ms, ⟨hPT.1, rfl, hPT.2.2⟩, ⟨hPM.1, rfl, hPM.2.2⟩, hT, hM, hx⟩⟩⟩
  by_cases hz : okS z
  · obtain ⟨q, hq1, hq2, hzq, hzq2⟩ := okS_q hz
    have hcnt : (es.filter (rg (kof p D) (eof p D))).countP (fun e => ab es (tgk D p q e.1)) = (ms.filter (rg (kof p D) (eof p D))).countP (fun e => ab ms (tgk D p q e.1)) := by
      have : (fun e : Nat × Int32 => ab es (tgk D p q e.1)) = (fun e => ab ms (tgk D p q e.1)) := by
        funext e; exact ab_eq hx _
      rw [this]
      exact (hperm.filter _).countP_eq _
    refine merge_ok hPT (by omega) hT ⟨hq1, hq2⟩ hz hzq2 (fun hF lf sl mk mv => m_merge hPM (by omega) hM ⟨hq1, hq2⟩ hz hzq (fun _ => ⟨rfl, D, p, es, ms, hPT, hPM, hT, hM, hx⟩) (fun hO => by omega)) (fun hO es' lv' siz' ky' va' tot' lf sl mk mv pk pv hT' hmem => m_merge hPM (by omega) hM ⟨hq1, hq2⟩ hz hzq (fun hF => by omega) (fun _ ms' li' le' vs' nd' hM' hmem' => ⟨by rw [(hperm.filter _).length_eq], D, p, es', ms', hPT, hPM, hT', hM', fun x => ?_⟩))
    rw [hmem, hmem']
    simp only [List.mem_filter, hx]
  · have h1 := hPT.2.1
    have h2 := hPM.2.1
    have h3 := hPT.1
    unfold X0_merge_w X1_merge_w
    rw [h1, h2, k0, nI_eq (by omega) (by omega)]
    refine ⟨fun _ => bad_yes hz ⟨fun hn => absurd hn (by decide), fun _ => ⟨fun _ => isSub_no hz ⟨fun hn => absurd rfl hn, fun _ => ⟨rfl, ?_⟩⟩, fun h0 => absurd h0 hd⟩⟩, fun h0 => absurd h0 hd⟩
    exact ⟨D, p, es, ms, ⟨hPT.1, rfl, hPT.2.2⟩, ⟨hPM.1, rfl, hPM.2.2⟩, hT, hM, hx⟩
end LK
end
section
/-! the questions keep the relation, with one answer -/
section LK2
variable {dep : Int32} {sub : Nat → Int32} {lv : Int32} {siz : Nat → Int32} {ky : Nat → Int32} {va : Nat → Int32} {tot : Int32} {lf : Int32} {sl : Int32} {mk : Nat → Int32} {mv : Nat → Int32} {pk : Nat → Int32} {pv : Nat → Int32} {li : Nat → Int32} {le : Nat → Int32} {vs : Nat → Int32} {nd : Int32} {po : Nat → Int32} {dp : Int32}
theorem L_data (h : LI dep sub lv siz ky va tot lf sl mk mv pk pv li le vs nd po dp) : K_data LI dep sub lv siz ky va tot lf sl mk mv pk pv li le vs nd po dp := by
  obtain ⟨D, p, es, ms, hPT, hPM, hT, hM, hx⟩ := h
  unfold K_data
  have hxy : ∀ x y : Int32, ((x = 10 ∧ ∃ e ∈ es, kbh p D ≤ e.1 ∧ e.1 < eof p D) ∨ (x = 0 ∧ ∀ e ∈ es, kbh p D ≤ e.1 → ¬ e.1 < eof p D)) → ((y = 10 ∧ ∃ e ∈ ms, kbh p D ≤ e.1 ∧ e.1 < eof p D) ∨ (y = 0 ∧ ∀ e ∈ ms, kbh p D ≤ e.1 → ¬ e.1 < eof p D)) → x = y := by
    intro x y h1 h2
    rcases h1 with ⟨h1, e, he, he1, he2⟩ | ⟨h1, hall⟩
    · rcases h2 with ⟨h2, -⟩ | ⟨h2, hall⟩
      · rw [h1, h2]
      · exact absurd he2 (hall e ((hx e).mp he) he1)
    · rcases h2 with ⟨h2, e, he, he1, he2⟩ | ⟨h2, -⟩
      · exact absurd he2 (hall e ((hx e).mpr he) he1)
      · rw [h1, h2]
  have hI : ∀ lf sl, LI dep sub lv siz ky va tot lf sl mk mv pk pv li le vs nd po dp := fun lf sl => ⟨D, p, es, ms, hPT, hPM, hT, hM, hx⟩
  refine tt_data hPT hT (fun x hxx => ⟨fun hab lf sl => m_data hPM hM (fun y hy => ⟨fun _ => ⟨hxy x y hxx hy, hI _ _⟩, fun hpr => ?_⟩), fun hpr lf sl => m_data hPM hM (fun y hy => ⟨fun hab => ?_, fun _ => ⟨by rw [hxy x y hxx hy], hI _ _⟩⟩)⟩)
  · obtain ⟨hd, e, he, hek⟩ := hpr
    rcases hab with h0 | hab
    · omega
    · exact absurd hek (hab e ((hx e).mpr he))
  · obtain ⟨hd, e, he, hek⟩ := hpr
    rcases hab with h0 | hab
    · omega
    · exact absurd hek (hab e ((hx e).mp he))
theorem L_value (h : LI dep sub lv siz ky va tot lf sl mk mv pk pv li le vs nd po dp) : K_value LI dep sub lv siz ky va tot lf sl mk mv pk pv li le vs nd po dp := by
  obtain ⟨D, p, es, ms, hPT, hPM, hT, hM, hx⟩ := h
  unfold K_value
  have hI : ∀ lf sl, LI dep sub lv siz ky va tot lf sl mk mv pk pv li le vs nd po dp := fun lf sl => ⟨D, p, es, ms, hPT, hPM, hT, hM, hx⟩
  refine tt_value hPT hT (fun hd => m_value hPM hM (fun h1 => by omega) (fun _ => ⟨rfl, hI _ _⟩)) (fun hd hab lf sl => m_value hPM hM (fun _ v hv => absurd rfl (hab _ ((hx _).mpr hv))) (fun _ => ⟨rfl, hI _ _⟩)) (fun hd v hv lf sl => m_value hPM hM (fun _ v' hv' => ⟨?_, hI _ _⟩) (fun hab => ?_))
  · exact congrArg Prod.snd (uniq_es hT hv ((hx _).mpr hv') rfl)
  · rcases hab with h0 | hab
    · omega
    · exact absurd rfl (hab _ ((hx _).mp hv))
theorem L_query (h : LI dep sub lv siz ky va tot lf sl mk mv pk pv li le vs nd po dp) : K_query LI dep sub lv siz ky va tot lf sl mk mv pk pv li le vs nd po dp := by
  obtain ⟨D, p, es, ms, hPT, hPM, hT, hM, hx⟩ := h
  unfold K_query
  have hI : ∀ lf sl, LI dep sub lv siz ky va tot lf sl mk mv pk pv li le vs nd po dp := fun lf sl => ⟨D, p, es, ms, hPT, hPM, hT, hM, hx⟩
  have hvk := hM.2.2.2.1
  have hbi : ∀ x ∈ ms, (kbh p D ≤ x.1 ↔ kof p D < x.1) := fun x hxm => behind_iff (hvk x hxm)
  refine tt_query hPT hT (fun hall lf sl => m_query hPM hM (fun _ => ⟨rfl, hI _ _⟩) (fun e he hlt _ => ?_)) (fun e he lf sl => m_query hPM hM (fun hall => ?_) (fun e' he' hlt hmin => ⟨?_, hI _ _⟩))
  · have := hall e ((hx e).mpr he)
    have := (hbi e he).mpr hlt
    omega
  · have h1 := (hx e).mp he.1
    have := hall e h1
    have := (hbi e h1).mp he.2.1
    omega
  · have h1 := (hx e).mp he.1
    have h2 := hmin e h1 ((hbi e h1).mp he.2.1)
    have h3 := he.2.2 e' ((hx e').mpr he') ((hbi e' he').mpr hlt)
    rw [uniq_es hT he.1 ((hx e').mpr he') (by omega)]
theorem L_before (h : LI dep sub lv siz ky va tot lf sl mk mv pk pv li le vs nd po dp) : K_before LI dep sub lv siz ky va tot lf sl mk mv pk pv li le vs nd po dp := by
  obtain ⟨D, p, es, ms, hPT, hPM, hT, hM, hx⟩ := h
  have hperm := perm_of hT hM hx
  unfold K_before
  refine tt_before hPT hT (fun lf sl => m_before hPM hM ⟨?_, D, p, es, ms, hPT, hPM, hT, hM, hx⟩)
  rw [hperm.countP_eq]
theorem L_count (h : LI dep sub lv siz ky va tot lf sl mk mv pk pv li le vs nd po dp) : K_count LI dep sub lv siz ky va tot lf sl mk mv pk pv li le vs nd po dp := by
  have hLI := h
  obtain ⟨D, p, es, ms, hPT, hPM, hT, hM, hx⟩ := h
  have hperm := perm_of hT hM hx
  unfold K_count X0_count_w X1_count_w
  refine ⟨?_, hLI⟩
  rw [hT.2.1, hM.1, hperm.length_eq]
theorem L_first (h : LI dep sub lv siz ky va tot lf sl mk mv pk pv li le vs nd po dp) : K_first LI dep sub lv siz ky va tot lf sl mk mv pk pv li le vs nd po dp := by
  obtain ⟨D, p, es, ms, hPT, hPM, hT, hM, hx⟩ := h
  unfold K_first
  have hI : ∀ lf sl, LI dep sub lv siz ky va tot lf sl mk mv pk pv li le vs nd po dp := fun lf sl => ⟨D, p, es, ms, hPT, hPM, hT, hM, hx⟩
  have hvk := hM.2.2.2.1
  have hpb := hPT.2.2.1
  have hD := hPT.1
  refine tt_first hPT hT (fun hd => m_first hPM hM (fun _ => ⟨rfl, hI _ _⟩) (fun h1 => by omega) (fun h1 => by omega)) (fun hd hall lf sl => m_first hPM hM (fun h1 => by omega) (fun _ _ => ⟨rfl, hI _ _⟩) (fun _ e he h1 h2 _ => ?_)) (fun hd e he hlt lf sl => m_first hPM hM (fun h1 => by omega) (fun _ hall => ?_) (fun _ e' he' h1 h2 hmin => ⟨?_, hI _ _⟩))
  · have := hall e ((hx e).mpr he) h1
    omega
  · exact absurd ⟨he.2.1, hlt⟩ (hall e ((hx e).mp he.1))
  · have hm := (hx e).mp he.1
    have h3 := hmin e hm he.2.1 hlt
    have h4 := he.2.2 e' ((hx e').mpr he') h1
    have w1 := ((below_iff hD hpb (hvk e hm)).mpr ⟨he.2.1, hlt⟩).1
    have w2 := ((below_iff hD hpb (hvk e' he')).mpr ⟨h1, h2⟩).1
    have h5 := dg_mono hd hpb (hvk e hm).1 (hvk e' he').1 w1 w2 h4
    rw [show dg e.1 D = dg e'.1 D by omega]
theorem L_next (h : LI dep sub lv siz ky va tot lf sl mk mv pk pv li le vs nd po dp) : K_next LI dep sub lv siz ky va tot lf sl mk mv pk pv li le vs nd po dp := by
  obtain ⟨D, p, es, ms, hPT, hPM, hT, hM, hx⟩ := h
  unfold K_next
  have hI : ∀ lf sl, LI dep sub lv siz ky va tot lf sl mk mv pk pv li le vs nd po dp := fun lf sl => ⟨D, p, es, ms, hPT, hPM, hT, hM, hx⟩
  have hvk := hM.2.2.2.1
  have hpb := hPT.2.2.1
  have hD := hPT.1
  refine tt_next hPT hT (fun hd => m_next hPM hM (fun _ => ⟨rfl, hI _ _⟩) (fun h1 => by omega) (fun h1 => by omega)) (fun hd hall lf sl => m_next hPM hM (fun h1 => by omega) (fun _ _ => ⟨rfl, hI _ _⟩) (fun _ e he h1 h2 _ => ?_)) (fun hd e he hlt lf sl => m_next hPM hM (fun h1 => by omega) (fun _ hall => ?_) (fun _ e' he' h1 h2 hmin => ⟨?_, hI _ _⟩))
  · have := hall e ((hx e).mpr he) h1
    omega
  · exact absurd ⟨he.2.1, hlt⟩ (hall e ((hx e).mp he.1))
  · have hm := (hx e).mp he.1
    have h3 := hmin e hm he.2.1 hlt
    have h4 := he.2.2 e' ((hx e').mpr he') h1
    have w1 := ((side_iff hd hD hpb (hvk e hm)).1.mpr ⟨he.2.1, hlt⟩).1
    have w2 := ((side_iff hd hD hpb (hvk e' he')).1.mpr ⟨h1, h2⟩).1
    have h5 := dg_mono (by omega) (fun j hj => hpb j (by omega)) (hvk e hm).1 (hvk e' he').1 w1 w2 h4
    rw [show dg e.1 (D - 1) = dg e'.1 (D - 1) by omega]
theorem L_previous (h : LI dep sub lv siz ky va tot lf sl mk mv pk pv li le vs nd po dp) : K_previous LI dep sub lv siz ky va tot lf sl mk mv pk pv li le vs nd po dp := by
  obtain ⟨D, p, es, ms, hPT, hPM, hT, hM, hx⟩ := h
  unfold K_previous
  have hI : ∀ lf sl, LI dep sub lv siz ky va tot lf sl mk mv pk pv li le vs nd po dp := fun lf sl => ⟨D, p, es, ms, hPT, hPM, hT, hM, hx⟩
  have hvk := hM.2.2.2.1
  have hpb := hPT.2.2.1
  have hD := hPT.1
  refine tt_previous hPT hT (fun hd => m_previous hPM hM (fun _ => ⟨rfl, hI _ _⟩) (fun h1 => by omega) (fun h1 => by omega)) (fun hd hall lf sl => m_previous hPM hM (fun h1 => by omega) (fun _ _ => ⟨rfl, hI _ _⟩) (fun _ e he h1 h2 _ => ?_)) (fun hd e he hlt lf sl => m_previous hPM hM (fun h1 => by omega) (fun _ hall => ?_) (fun _ e' he' h1 h2 hmax => ⟨?_, hI _ _⟩))
  · have := hall e ((hx e).mpr he) h2
    omega
  · exact absurd ⟨hlt, he.2.1⟩ (hall e ((hx e).mp he.1))
  · have hm := (hx e).mp he.1
    have h3 := hmax e hm hlt he.2.1
    have h4 := he.2.2 e' ((hx e').mpr he') h2
    have w1 := ((side_iff hd hD hpb (hvk e hm)).2.mpr ⟨hlt, he.2.1⟩).1
    have w2 := ((side_iff hd hD hpb (hvk e' he')).2.mpr ⟨h1, h2⟩).1
    have h5 := dg_mono (by omega) (fun j hj => hpb j (by omega)) (hvk e' he').1 (hvk e hm).1 w2 w1 h4
    rw [show dg e.1 (D - 1) = dg e'.1 (D - 1) by omega]
end LK2
theorem L_init : LI 0 (fun _ => 0) 1 (fun _ => 0) (fun _ => 0) (fun _ => 0) 0 0 0 (fun _ => 0) (fun _ => 0) (fun _ => 0) (fun _ => 0) (fun _ => 0) (fun _ => 0) (fun _ => 0) 0 (fun _ => 0) 0 := by
  refine ⟨0, fun _ => 0, [], [], ⟨by omega, rfl, by omega, by omega⟩, ⟨by omega, rfl, by omega, by omega⟩, ⟨by simp, rfl, [[]], rfl, ⟨rfl, fun l c hc => ?_⟩, ⟨by simp, by simp, by simp, Or.inl rfl, by simp, by simp⟩⟩, ⟨rfl, by simp, fun i e he => by simp at he, by simp, by simp⟩, fun x => Iff.rfl⟩
  match l, hc with
  | 0, hc =>
    simp at hc
    subst hc
    exact ⟨rfl, fun i e he => by simp at he⟩
  | l + 1, hc => simp at hc
theorem law_I : ∃ I, LawI I := by
  refine ⟨LI, L_init, ?_⟩
  intro dep sub lv siz ky va tot lf sl mk mv pk pv li le vs nd po dp h
  exact ⟨L_down h, L_up h, L_turn h, L_set h, L_increment h, L_kill h, L_merge h, L_data h, L_value h, L_next h, L_previous h, L_first h, L_query h, L_before h, L_count h⟩
end
section
theorem whole_start {p : Program} {e : Env} {s : State} {m : MethodId} {below : List Frame} {meth : Method} {c : Code} (l : Launch) {b L : Nat} {xs : Nat → Int32} (hL : L ≤ 128) (C0 : lw_At p s m meth c b L xs) : W p l e room_1 s m #[Value.ref b] below meth c s.heap [] 0 0 (lw_Z below #[Value.ref b] s) (entryFrame m ([Value.ref b] : List Value).toArray 4) := by
  obtain ⟨I, hI⟩ := law_I
  exact whole_of l hI hL C0
set_option maxHeartbeats 4000000 in
theorem lw_walk (l : Launch) (b : Addr) (xs : List Int32) : MetFree l x (headSpec (Jvm.Cond.code x code maxLocals ret :: tables_1) room_1) (lw_P b xs) (fun _ _ _ _ _ => True) lw_Q := by
  refine MetFree.of_bodyS (code := code) (maxLocals := maxLocals) (ret := ret) (by decide) ?_ ?_
  · intro args s m h hn
    obtain ⟨meth, c, h1, h2, h3, h4, h5, h6, -, -⟩ := Cond.code_spec hn (atoms_spec (ws := Jvm.Cond.code x code maxLocals ret :: tables_1) h _ List.mem_cons_self)
    exact ⟨meth, c, h1, h2, h3, h4, h5, h6⟩
  · intro p e s m args below meth c s₁ B hml0 hP _
    obtain ⟨rfl, hx, hbd, hgv⟩ := hP
    obtain ⟨scr, harrAt, hlist, hof, hsmall⟩ := hx
    obtain ⟨hcb, hkn, -, -⟩ := State.arrayAt?_spec harrAt
    have hown : s.vm.findClass R_law = some m.cls := findClass_of_methodNamed B.named
    have hts0 : ∀ c ∈ (Jvm.Cond.code x code maxLocals ret :: tables_1), c.before #[Value.ref b] s = true := atoms_spec (ws := Jvm.Cond.code x code maxLocals ret :: tables_1) B.pre
    have hts : ∀ w ∈ lw_tbl, w.before #[Value.ref b] s = true := k2_hts_sels lw_privs (fun w hw => hts0 w (List.mem_cons_of_mem _ hw)) lw_privs_ok
    have hml : c.maxLocals = 4 := B.maxLocals_eq (hts0 _ List.mem_cons_self)
    have X₀ : Stand p l e room_1 s m #[Value.ref b] below meth c s₁ [] 0 0 := Stand.of_body B
    have hh0 : s₁.heap = s.heap := by rw [B.state]; rfl
    have hsz : scr.slots.size = xs.length := by rw [← Array.length_toList, hlist, List.length_map]
    have hval : ∀ j : Nat, j < xs.length → scr.slots[j]? = some (.int (xs.getD j 0)) := fun j hj => by
      rw [← Array.getElem?_toList, hlist]
      simp [hj]
    have hbl : b < s.heap.size := (Array.getElem?_eq_some_iff.mp hcb).1
    have hX : va_X b xs.length (fun j => xs.getD j 0) s s.heap := ⟨scr, hcb, hof, hkn, hsz, hval⟩
    have K : W p l e room_1 s m #[Value.ref b] below meth c s₁.heap [] 0 0 (lw_Z below #[Value.ref b] s) (entryFrame m ([Value.ref b] : List Value).toArray 4) := by
      rw [hh0]
      exact whole_start l hbd ⟨B.exec, B.bytes, B.returns, hml, hown, hts, hX, hbl, B.notSynchronized, hgv⟩
    obtain ⟨t, a1, o, b1, b2, b3⟩ := K s₁ rfl X₀
    exact ⟨t, o, a1, b1, b2, b3⟩
theorem lw_pre_spec {args : Array Value} {s : State} (h : (Jvm.Cond.and given_1 narrow_1).before args s = true) (hr : rest_1_c.before args s = true) : ∃ (b : Addr) (xs : List Int32), lw_P b xs args s := by
  have hs := flat_of_before _ h
  have hq := flat_of_before _ hr
  have hc : (Cond.count 1).before args s = true := hs _ (by decide +kernel)
  have harr : (Cond.arrayOf (.arg 0) .int).before args s = true := hs _ (by decide +kernel)
  have hle : (Cond.le (.length (.arg 0)) (.int 128)).before args s = true := hs _ (by decide +kernel)
  have hlen : (Cond.isInt (.length (.arg 0))).before args s = true := hq _ (by decide +kernel)
  have hall : (Cond.all (.arg 0) (.isInt (.elem (.arg 0) (.index 0)))).before args s = true := hq _ (by decide +kernel)
  obtain ⟨b, xs, hb, hx⟩ := State.ints_of_pre rfl harr hlen hall
  have hsm : xs.length < 2 ^ 31 := hx.choose_spec.2.2.2
  have hev : (Term.length (.arg 0)).eval args s none [] s = some (.int xs.length.toInt32) := hx.length_eval hb
  have hv := Cond.le_ints hev (show (Term.int 128).eval args s none [] s = some (.int 128) from rfl)
  have hd : xs.length.toInt32 ≤ 128 := by
    simpa [Cond.before, Cond.holds, hv] using hle
  have hN : xs.length ≤ 128 := (Int32.ofNat_le_ofNat hsm (by decide)).mp (show Int32.ofNat xs.length ≤ Int32.ofNat 128 from hd)
  exact ⟨b, xs, Cond.one_arg hc (show args[0]? = some (.ref b) from hb), hx, hN, h⟩
theorem lw_comes (l : Launch) : Comes l x (Jvm.Cond.code x code maxLocals ret :: tables_1) room_1 (fun tb e args s => Calls_1 tb e args s ∧ rest_1 tb e args s ∧ Pre_1 tb e args s)
    (fun _ _ args s o t => lw_Q args s o t) := by
  intro p e ha hc hk s m args below hf hfit hheap happ hpre
  obtain ⟨b, xs, hP⟩ := lw_pre_spec hpre.2.2 hpre.2.1
  obtain ⟨k, o, h1, h2, h3, hQ⟩ := lw_walk l b xs p e ha hc hk s m args below hf ((Spec.applies_iff_loose hf).mp happ).1 hP trivial
  exact ⟨k, o, h1, h2, h3, hQ⟩
theorem lw_frame {s t : State} {o : Outcome} {args : Array Value} (h : Framed s o t [] 600000 7290000) :
    Framed s o t (fieldLocs frame_1_writes args s ++ arrayLocs frame_1_arrays args s ++ staticLocs frame_1_statics s) 600000 7290000 := h
theorem lw_limb (L : Cond) (hL : ∀ (args : Array Value) (s t : State), L.after args s (.returned (some (.int 1))) t = true) :
    ArmFor flags0 classFile x code maxLocals ret World_1 tables_1 room_1 Calls_1 rest_1 Pre_1
      (fun tb e a s o t => postC L tb e a s o t ∧ Framed s o t (fieldLocs frame_1_writes a s ++ arrayLocs frame_1_arrays a s ++ staticLocs frame_1_statics s) 600000 7290000) := by
  intro l _ _ _ p e ha hc hk s m args below hf hfit hheap happ hpre
  obtain ⟨k, o, h1, h2, h3, rfl, hF⟩ := lw_comes l p e ha hc hk s m args below hf hfit hheap happ hpre
  exact ⟨k, _, h1, h2, h3, hL args s _, lw_frame hF⟩
theorem i_vc : Claimed_1_1 ∧ Claimed_1_2 := ⟨lw_limb limb_1_1 (fun args s t => by simp [limb_1_1, Cond.after, Cond.holds, Cond.value]), lw_limb limb_1_2 (fun args s t => Cond.after_iff.mpr (by
  first | (rw [show limb_1_2 = Cond.eq .result (.int 1) from rfl, Cond.eq_ints (x := 1) (y := 1) rfl rfl]; simp; done) | (simp [limb_1_2, Cond.value, Term.eval]; done)))⟩
end
