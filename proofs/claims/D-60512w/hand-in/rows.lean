section
-- ===== PART A: goes FIRST, ahead of the names: the tables' words, and 'selects' of the private methods out of them =====
/-- a private method of a class that the tables say can be made, by its rows of tables_1 -/
def lw_okq (q : MethodName × Nat) : Prop := (q.1.cls ≠ "java/lang/invoke/MethodHandle" ∧ q.1.cls ≠ "java/lang/invoke/VarHandle") ∧ Cond.instantiable q.1.cls q.2 ∈ tables_1 ∧ Cond.privateMethod q.1 ∈ tables_1 ∧ Cond.instanceMethod q.1 ∈ tables_1
set_option maxRecDepth 100000
theorem lw_t1 {w : Cond} (h : w ∈ tables_1_1) : w ∈ tables_1 := List.mem_append_left _ h
theorem lw_t2 {w : Cond} (h : w ∈ tables_1_2) : w ∈ tables_1 := List.mem_append_right _ h
theorem lw_p0 : lw_okq (⟨"CheckpointedStore", "restart", "()V"⟩, 20) := ⟨⟨by decide +kernel, by decide +kernel⟩, lw_t1 (List.mem_of_getElem? (i := 4) rfl), lw_t1 (List.mem_of_getElem? (i := 12) rfl), lw_t1 (List.mem_of_getElem? (i := 13) rfl)⟩
theorem lw_p1 : lw_okq (⟨"CheckpointedStore", "unusedLog", "()I"⟩, 20) := ⟨⟨by decide +kernel, by decide +kernel⟩, lw_t1 (List.mem_of_getElem? (i := 4) rfl), lw_t1 (List.mem_of_getElem? (i := 16) rfl), lw_t1 (List.mem_of_getElem? (i := 17) rfl)⟩
theorem lw_p2 : lw_okq (⟨"CheckpointedStore", "clearLog", "(I)V"⟩, 20) := ⟨⟨by decide +kernel, by decide +kernel⟩, lw_t1 (List.mem_of_getElem? (i := 4) rfl), lw_t1 (List.mem_of_getElem? (i := 20) rfl), lw_t1 (List.mem_of_getElem? (i := 21) rfl)⟩
theorem lw_p3 : lw_okq (⟨"CheckpointedStore", "put", "(IIIII)V"⟩, 20) := ⟨⟨by decide +kernel, by decide +kernel⟩, lw_t1 (List.mem_of_getElem? (i := 4) rfl), lw_t1 (List.mem_of_getElem? (i := 94) rfl), lw_t1 (List.mem_of_getElem? (i := 95) rfl)⟩
theorem lw_p4 : lw_okq (⟨"CheckpointedStore", "frameFor", "(I)I"⟩, 20) := ⟨⟨by decide +kernel, by decide +kernel⟩, lw_t1 (List.mem_of_getElem? (i := 4) rfl), lw_t1 (List.mem_of_getElem? (i := 98) rfl), lw_t1 (List.mem_of_getElem? (i := 99) rfl)⟩
theorem lw_p5 : lw_okq (⟨"CheckpointedStore", "evict", "(I)V"⟩, 20) := ⟨⟨by decide +kernel, by decide +kernel⟩, lw_t1 (List.mem_of_getElem? (i := 4) rfl), lw_t1 (List.mem_of_getElem? (i := 102) rfl), lw_t1 (List.mem_of_getElem? (i := 103) rfl)⟩
theorem lw_p6 : lw_okq (⟨"CheckpointedStore", "saveFrozen", "(I)V"⟩, 20) := ⟨⟨by decide +kernel, by decide +kernel⟩, lw_t1 (List.mem_of_getElem? (i := 4) rfl), lw_t1 (List.mem_of_getElem? (i := 106) rfl), lw_t1 (List.mem_of_getElem? (i := 107) rfl)⟩
theorem lw_p7 : lw_okq (⟨"CheckpointedStore", "save", "(II)V"⟩, 20) := ⟨⟨by decide +kernel, by decide +kernel⟩, lw_t1 (List.mem_of_getElem? (i := 4) rfl), lw_t1 (List.mem_of_getElem? (i := 110) rfl), lw_t1 (List.mem_of_getElem? (i := 111) rfl)⟩
theorem lw_p8 : lw_okq (⟨"CheckpointedStore", "load", "(II)V"⟩, 20) := ⟨⟨by decide +kernel, by decide +kernel⟩, lw_t1 (List.mem_of_getElem? (i := 4) rfl), lw_t1 (List.mem_of_getElem? (i := 114) rfl), lw_t1 (List.mem_of_getElem? (i := 115) rfl)⟩
theorem lw_p9 : lw_okq (⟨"CheckpointedStore", "newestLog", "(I)I"⟩, 20) := ⟨⟨by decide +kernel, by decide +kernel⟩, lw_t1 (List.mem_of_getElem? (i := 4) rfl), lw_t1 (List.mem_of_getElem? (i := 118) rfl), lw_t1 (List.mem_of_getElem? (i := 119) rfl)⟩
theorem lw_p10 : lw_okq (⟨"CheckpointedStore", "loadHome", "(II)V"⟩, 20) := ⟨⟨by decide +kernel, by decide +kernel⟩, lw_t1 (List.mem_of_getElem? (i := 4) rfl), lw_t1 (List.mem_of_getElem? (i := 122) rfl), lw_t1 (List.mem_of_getElem? (i := 123) rfl)⟩
theorem lw_p11 : lw_okq (⟨"CheckpointedStore", "makeWritable", "(I)V"⟩, 20) := ⟨⟨by decide +kernel, by decide +kernel⟩, lw_t1 (List.mem_of_getElem? (i := 4) rfl), lw_t1 (List.mem_of_getElem? (i := 126) rfl), lw_t1 (List.mem_of_getElem? (i := 127) rfl)⟩
theorem lw_p12 : lw_okq (⟨"CheckpointedStore", "versionOf", "(I)I"⟩, 20) := ⟨⟨by decide +kernel, by decide +kernel⟩, lw_t1 (List.mem_of_getElem? (i := 4) rfl), lw_t1 (List.mem_of_getElem? (i := 134) rfl), lw_t1 (List.mem_of_getElem? (i := 135) rfl)⟩
theorem lw_p13 : lw_okq (⟨"CheckpointedStore", "liveKey", "(II)I"⟩, 20) := ⟨⟨by decide +kernel, by decide +kernel⟩, lw_t1 (List.mem_of_getElem? (i := 4) rfl), lw_t1 (List.mem_of_getElem? (i := 142) rfl), lw_t1 (List.mem_of_getElem? (i := 143) rfl)⟩
theorem lw_p14 : lw_okq (⟨"CheckpointedStore", "numberIn", "(II)I"⟩, 20) := ⟨⟨by decide +kernel, by decide +kernel⟩, lw_t1 (List.mem_of_getElem? (i := 4) rfl), lw_t1 (List.mem_of_getElem? (i := 146) rfl), lw_t1 (List.mem_of_getElem? (i := 147) rfl)⟩
theorem lw_p15 : lw_okq (⟨"CheckpointedStore", "moveHome", "(I)V"⟩, 20) := ⟨⟨by decide +kernel, by decide +kernel⟩, lw_t1 (List.mem_of_getElem? (i := 4) rfl), lw_t1 (List.mem_of_getElem? (i := 174) rfl), lw_t1 (List.mem_of_getElem? (i := 175) rfl)⟩
def lw_privs_1 : List (MethodName × Nat) := [(⟨"CheckpointedStore", "restart", "()V"⟩, 20), (⟨"CheckpointedStore", "unusedLog", "()I"⟩, 20), (⟨"CheckpointedStore", "clearLog", "(I)V"⟩, 20), (⟨"CheckpointedStore", "put", "(IIIII)V"⟩, 20), (⟨"CheckpointedStore", "frameFor", "(I)I"⟩, 20), (⟨"CheckpointedStore", "evict", "(I)V"⟩, 20), (⟨"CheckpointedStore", "saveFrozen", "(I)V"⟩, 20), (⟨"CheckpointedStore", "save", "(II)V"⟩, 20), (⟨"CheckpointedStore", "load", "(II)V"⟩, 20), (⟨"CheckpointedStore", "newestLog", "(I)I"⟩, 20), (⟨"CheckpointedStore", "loadHome", "(II)V"⟩, 20), (⟨"CheckpointedStore", "makeWritable", "(I)V"⟩, 20), (⟨"CheckpointedStore", "versionOf", "(I)I"⟩, 20), (⟨"CheckpointedStore", "liveKey", "(II)I"⟩, 20), (⟨"CheckpointedStore", "numberIn", "(II)I"⟩, 20), (⟨"CheckpointedStore", "moveHome", "(I)V"⟩, 20)]
theorem lw_r1 : ∀ q ∈ lw_privs_1, lw_okq q := List.forall_mem_cons.mpr ⟨lw_p0, List.forall_mem_cons.mpr ⟨lw_p1, List.forall_mem_cons.mpr ⟨lw_p2, List.forall_mem_cons.mpr ⟨lw_p3, List.forall_mem_cons.mpr ⟨lw_p4, List.forall_mem_cons.mpr ⟨lw_p5, List.forall_mem_cons.mpr ⟨lw_p6, List.forall_mem_cons.mpr ⟨lw_p7, List.forall_mem_cons.mpr ⟨lw_p8, List.forall_mem_cons.mpr ⟨lw_p9, List.forall_mem_cons.mpr ⟨lw_p10, List.forall_mem_cons.mpr ⟨lw_p11, List.forall_mem_cons.mpr ⟨lw_p12, List.forall_mem_cons.mpr ⟨lw_p13, List.forall_mem_cons.mpr ⟨lw_p14, List.forall_mem_cons.mpr ⟨lw_p15, fun _ h => absurd h List.not_mem_nil⟩⟩⟩⟩⟩⟩⟩⟩⟩⟩⟩⟩⟩⟩⟩⟩
theorem lw_p16 : lw_okq (⟨"CheckpointedStore", "copyHome", "(II)V"⟩, 20) := ⟨⟨by decide +kernel, by decide +kernel⟩, lw_t1 (List.mem_of_getElem? (i := 4) rfl), lw_t1 (List.mem_of_getElem? (i := 178) rfl), lw_t1 (List.mem_of_getElem? (i := 179) rfl)⟩
theorem lw_p17 : lw_okq (⟨"CheckpointedStoreModel", "set", "(IZI)V"⟩, 7) := ⟨⟨by decide +kernel, by decide +kernel⟩, lw_t1 (List.mem_of_getElem? (i := 194) rfl), lw_t1 (List.mem_of_getElem? (i := 232) rfl), lw_t1 (List.mem_of_getElem? (i := 233) rfl)⟩
def lw_privs_2 : List (MethodName × Nat) := [(⟨"CheckpointedStore", "copyHome", "(II)V"⟩, 20), (⟨"CheckpointedStoreModel", "set", "(IZI)V"⟩, 7)]
theorem lw_r2 : ∀ q ∈ lw_privs_2, lw_okq q := List.forall_mem_cons.mpr ⟨lw_p16, List.forall_mem_cons.mpr ⟨lw_p17, fun _ h => absurd h List.not_mem_nil⟩⟩
def lw_privs : List (MethodName × Nat) := lw_privs_1 ++ (lw_privs_2)
def lw_tbl : List Cond := k2_sels lw_privs ++ tables_1
theorem lw_privs_ok : ∀ q ∈ lw_privs, lw_okq q := by
  show ∀ q ∈ lw_privs_1 ++ (lw_privs_2), lw_okq q
  exact List.forall_mem_append.mpr ⟨lw_r1, lw_r2⟩
-- ===== ONE list of words for every method: the tables' words that hold all through a run =====
def lw_all : List Cond := lw_tbl.filter goodWord
/-- a word of the tables by its place: claim/WORDS.tsv -/
theorem lw_w {w : Cond} (i : Nat) (h : lw_tbl[i]? = some w) (g : goodWord w = true) : w ∈ lw_all := List.mem_filter.mpr ⟨List.mem_of_getElem? h, g⟩
theorem lw_all_tbl {w : Cond} (h : w ∈ lw_all) : w ∈ lw_tbl := (List.mem_filter.mp h).1
theorem lw_self : GoodIn lw_all lw_all := fun w h => ⟨h, good_of_word (List.mem_filter.mp h).2⟩
/-- a class's field words, by their places -/
theorem lw_in (ws : List Cond) (ps : List Nat) (hp : ws = ps.filterMap (fun i => lw_tbl[i]?)) (hg : ws.all goodWord = true) : ∀ w ∈ ws, w ∈ lw_all := by
  intro w h
  have h1 := List.all_eq_true.mp hg w h
  rw [hp] at h
  obtain ⟨i, -, hi⟩ := List.mem_filterMap.mp h
  exact lw_w i hi h1
/-- the words of a contract for the method y with code b, L locals, answer r -/
abbrev ws_ (y : MethodName) (b : ByteArray) (L : Nat) (r : Option FieldType) : List Cond := Cond.code y b L r :: lw_all
theorem lw_meth {y : MethodName} {b : ByteArray} {L : Nat} {r : Option FieldType} (h : Cond.code y b L r ∈ lw_all) : GoodIn lw_all (ws_ y b L r) := by
  intro w hw
  rcases List.mem_cons.mp hw with e | e
  · rw [e]
    exact lw_self _ h
  · exact lw_self _ e
theorem lw_app {a c : List Cond} (ha : ∀ w ∈ a, w ∈ lw_all) (hc : GoodIn lw_all c) : GoodIn lw_all (a ++ c) := by
  intro w hw
  rcases List.mem_append.mp hw with e | e
  · exact lw_self w (ha w e)
  · exact hc w e
/-- what a call through an object asks: cwV n hts (lw_V ..) -/
theorem lw_V {own : String} {idx : Nat} {C : String} {y : MethodName} {b : ByteArray} {L : Nat} {r : Option FieldType} (h1 : Cond.methodLink own idx y ∈ lw_all) (h2 : Cond.instanceMethod y ∈ lw_all) (h3 : Cond.selects C y y ∈ lw_all) (h4 : Cond.initialized C ∈ lw_all) (h5 : Cond.code y b L r ∈ lw_all) : GoodIn lw_all (wsV own idx C y (ws_ y b L r)) := by
  refine lw_app ?_ (lw_meth h5)
  intro w hw
  simp only [List.mem_cons, List.not_mem_nil, or_false] at hw
  rcases hw with e | e | e | e
  · rw [e]; exact h1
  · rw [e]; exact h2
  · rw [e]; exact h3
  · rw [e]; exact h4
/-- what a static call asks: va_cwS n hts (lw_S ..) -/
theorem lw_S {own : String} {idx : Nat} {y : MethodName} {b : ByteArray} {L : Nat} {r : Option FieldType} (h1 : Cond.methodLink own idx y ∈ lw_all) (h2 : Cond.static y ∈ lw_all) (h3 : Cond.initialized y.cls ∈ lw_all) (h4 : Cond.code y b L r ∈ lw_all) : GoodIn lw_all (va_wsS own idx y (ws_ y b L r)) := by
  refine lw_app ?_ (lw_meth h4)
  intro w hw
  simp only [List.mem_cons, List.not_mem_nil, or_false] at hw
  rcases hw with e | e | e
  · rw [e]; exact h1
  · rw [e]; exact h2
  · rw [e]; exact h3
/-- the words of a contract for a method WITH HANDLERS (hh: its table) -/
abbrev wsW_ (y : MethodName) (b : ByteArray) (L : Nat) (r : Option FieldType) (hh : List (Nat × Nat × Nat × Nat)) : List Cond := Cond.codeWith y b L r hh :: lw_all
theorem lw_methW {y : MethodName} {b : ByteArray} {L : Nat} {r : Option FieldType} {hh : List (Nat × Nat × Nat × Nat)} (h : Cond.codeWith y b L r hh ∈ lw_all) : GoodIn lw_all (wsW_ y b L r hh) := by
  intro w hw
  rcases List.mem_cons.mp hw with e | e
  · rw [e]
    exact lw_self _ h
  · exact lw_self _ e
/-- any list of words by their places (lw_in), good -/
theorem lw_good {ws : List Cond} (h : ∀ w ∈ ws, w ∈ lw_all) : GoodIn lw_all ws := fun w hw => lw_self w (h w hw)
/-- what a call of a method with handlers asks: vx_cwVW n hts (lw_VW ..), vx_cwSW n hts (lw_SW ..) -/
theorem lw_VW {own : String} {idx : Nat} {C : String} {y : MethodName} {b : ByteArray} {L : Nat} {r : Option FieldType} {hh : List (Nat × Nat × Nat × Nat)} (h1 : Cond.methodLink own idx y ∈ lw_all) (h2 : Cond.instanceMethod y ∈ lw_all) (h3 : Cond.selects C y y ∈ lw_all) (h4 : Cond.initialized C ∈ lw_all) (h5 : Cond.codeWith y b L r hh ∈ lw_all) : GoodIn lw_all (wsV own idx C y (wsW_ y b L r hh)) := by
  refine lw_app ?_ (lw_methW h5)
  intro w hw
  simp only [List.mem_cons, List.not_mem_nil, or_false] at hw
  rcases hw with e | e | e | e
  · rw [e]; exact h1
  · rw [e]; exact h2
  · rw [e]; exact h3
  · rw [e]; exact h4
theorem lw_SW {own : String} {idx : Nat} {y : MethodName} {b : ByteArray} {L : Nat} {r : Option FieldType} {hh : List (Nat × Nat × Nat × Nat)} (h1 : Cond.methodLink own idx y ∈ lw_all) (h2 : Cond.static y ∈ lw_all) (h3 : Cond.initialized y.cls ∈ lw_all) (h4 : Cond.codeWith y b L r hh ∈ lw_all) : GoodIn lw_all (va_wsS own idx y (wsW_ y b L r hh)) := by
  refine lw_app ?_ (lw_methW h4)
  intro w hw
  simp only [List.mem_cons, List.not_mem_nil, or_false] at hw
  rcases hw with e | e | e
  · rw [e]; exact h1
  · rw [e]; exact h2
  · rw [e]; exact h3
/-- a word by its place in its run of the tables -/
theorem lw_at {r : List Cond} (hr : ∀ w ∈ r, w ∈ lw_tbl) {w : Cond} (i : Nat) (h : r[i]? = some w) : w ∈ lw_tbl := hr w (List.mem_of_getElem? h)
theorem lw_g {w : Cond} (h : w ∈ lw_tbl) (g : goodWord w = true) : w ∈ lw_all := List.mem_filter.mpr ⟨h, g⟩
theorem lw_ms : ∀ w ∈ k2_sels lw_privs, w ∈ lw_tbl := fun w h => show w ∈ k2_sels lw_privs ++ tables_1 from List.mem_append_left _ h
theorem lw_m1 : ∀ w ∈ tables_1_1, w ∈ lw_tbl := fun w h => show w ∈ k2_sels lw_privs ++ tables_1 from List.mem_append_right (k2_sels lw_privs) (show w ∈ tables_1 from List.mem_append_left _ h)
theorem lw_m2 : ∀ w ∈ tables_1_2, w ∈ lw_tbl := fun w h => show w ∈ k2_sels lw_privs ++ tables_1 from List.mem_append_right (k2_sels lw_privs) (show w ∈ tables_1 from List.mem_append_right _ h)
theorem qs0 : (Cond.selects "CheckpointedStore" ⟨"CheckpointedStore", "restart", "()V"⟩ ⟨"CheckpointedStore", "restart", "()V"⟩) ∈ lw_all := lw_g (lw_at lw_ms 0 rfl) rfl
theorem qs1 : (Cond.selects "CheckpointedStore" ⟨"CheckpointedStore", "unusedLog", "()I"⟩ ⟨"CheckpointedStore", "unusedLog", "()I"⟩) ∈ lw_all := lw_g (lw_at lw_ms 1 rfl) rfl
theorem qs2 : (Cond.selects "CheckpointedStore" ⟨"CheckpointedStore", "clearLog", "(I)V"⟩ ⟨"CheckpointedStore", "clearLog", "(I)V"⟩) ∈ lw_all := lw_g (lw_at lw_ms 2 rfl) rfl
theorem qs3 : (Cond.selects "CheckpointedStore" ⟨"CheckpointedStore", "put", "(IIIII)V"⟩ ⟨"CheckpointedStore", "put", "(IIIII)V"⟩) ∈ lw_all := lw_g (lw_at lw_ms 3 rfl) rfl
theorem qs4 : (Cond.selects "CheckpointedStore" ⟨"CheckpointedStore", "frameFor", "(I)I"⟩ ⟨"CheckpointedStore", "frameFor", "(I)I"⟩) ∈ lw_all := lw_g (lw_at lw_ms 4 rfl) rfl
theorem qs5 : (Cond.selects "CheckpointedStore" ⟨"CheckpointedStore", "evict", "(I)V"⟩ ⟨"CheckpointedStore", "evict", "(I)V"⟩) ∈ lw_all := lw_g (lw_at lw_ms 5 rfl) rfl
theorem qs6 : (Cond.selects "CheckpointedStore" ⟨"CheckpointedStore", "saveFrozen", "(I)V"⟩ ⟨"CheckpointedStore", "saveFrozen", "(I)V"⟩) ∈ lw_all := lw_g (lw_at lw_ms 6 rfl) rfl
theorem qs7 : (Cond.selects "CheckpointedStore" ⟨"CheckpointedStore", "save", "(II)V"⟩ ⟨"CheckpointedStore", "save", "(II)V"⟩) ∈ lw_all := lw_g (lw_at lw_ms 7 rfl) rfl
theorem qs8 : (Cond.selects "CheckpointedStore" ⟨"CheckpointedStore", "load", "(II)V"⟩ ⟨"CheckpointedStore", "load", "(II)V"⟩) ∈ lw_all := lw_g (lw_at lw_ms 8 rfl) rfl
theorem qs9 : (Cond.selects "CheckpointedStore" ⟨"CheckpointedStore", "newestLog", "(I)I"⟩ ⟨"CheckpointedStore", "newestLog", "(I)I"⟩) ∈ lw_all := lw_g (lw_at lw_ms 9 rfl) rfl
theorem qs10 : (Cond.selects "CheckpointedStore" ⟨"CheckpointedStore", "loadHome", "(II)V"⟩ ⟨"CheckpointedStore", "loadHome", "(II)V"⟩) ∈ lw_all := lw_g (lw_at lw_ms 10 rfl) rfl
theorem qs11 : (Cond.selects "CheckpointedStore" ⟨"CheckpointedStore", "makeWritable", "(I)V"⟩ ⟨"CheckpointedStore", "makeWritable", "(I)V"⟩) ∈ lw_all := lw_g (lw_at lw_ms 11 rfl) rfl
theorem qs12 : (Cond.selects "CheckpointedStore" ⟨"CheckpointedStore", "versionOf", "(I)I"⟩ ⟨"CheckpointedStore", "versionOf", "(I)I"⟩) ∈ lw_all := lw_g (lw_at lw_ms 12 rfl) rfl
theorem qs13 : (Cond.selects "CheckpointedStore" ⟨"CheckpointedStore", "liveKey", "(II)I"⟩ ⟨"CheckpointedStore", "liveKey", "(II)I"⟩) ∈ lw_all := lw_g (lw_at lw_ms 13 rfl) rfl
theorem qs14 : (Cond.selects "CheckpointedStore" ⟨"CheckpointedStore", "numberIn", "(II)I"⟩ ⟨"CheckpointedStore", "numberIn", "(II)I"⟩) ∈ lw_all := lw_g (lw_at lw_ms 14 rfl) rfl
theorem qs15 : (Cond.selects "CheckpointedStore" ⟨"CheckpointedStore", "moveHome", "(I)V"⟩ ⟨"CheckpointedStore", "moveHome", "(I)V"⟩) ∈ lw_all := lw_g (lw_at lw_ms 15 rfl) rfl
theorem qs16 : (Cond.selects "CheckpointedStore" ⟨"CheckpointedStore", "copyHome", "(II)V"⟩ ⟨"CheckpointedStore", "copyHome", "(II)V"⟩) ∈ lw_all := lw_g (lw_at lw_ms 16 rfl) rfl
theorem qs17 : (Cond.selects "CheckpointedStoreModel" ⟨"CheckpointedStoreModel", "set", "(IZI)V"⟩ ⟨"CheckpointedStoreModel", "set", "(IZI)V"⟩) ∈ lw_all := lw_g (lw_at lw_ms 17 rfl) rfl
end
section
/-! CheckpointedStore -/
set_option maxRecDepth 100000
def RX0 : String := "CheckpointedStore"
def TX0 : u_T := fun k => match k with
  | 0 => ("CheckpointedStore", "homeNumber", "[I", true)
  | 1 => ("CheckpointedStore", "homeTarget", "[I", true)
  | 2 => ("CheckpointedStore", "homeStamp", "[I", true)
  | 3 => ("CheckpointedStore", "homeVersion", "[I", true)
  | 4 => ("CheckpointedStore", "logNumber", "[I", true)
  | 5 => ("CheckpointedStore", "logTarget", "[I", true)
  | 6 => ("CheckpointedStore", "logStamp", "[I", true)
  | 7 => ("CheckpointedStore", "logVersion", "[I", true)
  | 8 => ("CheckpointedStore", "logged", "[Z", true)
  | 9 => ("CheckpointedStore", "mark", "I", false)
  | 10 => ("CheckpointedStore", "frameNode", "[I", true)
  | 11 => ("CheckpointedStore", "dirty", "[Z", true)
  | 12 => ("CheckpointedStore", "frozen", "[Z", true)
  | 13 => ("CheckpointedStore", "frameNumber", "[I", true)
  | 14 => ("CheckpointedStore", "frameTarget", "[I", true)
  | 15 => ("CheckpointedStore", "frameStamp", "[I", true)
  | 16 => ("CheckpointedStore", "frameVersion", "[I", true)
  | 17 => ("CheckpointedStore", "hand", "I", false)
  | 18 => ("CheckpointedStore", "openLog", "I", false)
  | _ => ("CheckpointedStore", "presentLog", "I", false)
def tyX0 : Nat → FieldType := fun k => match k with
  | 0 => .array .int
  | 1 => .array .int
  | 2 => .array .int
  | 3 => .array .int
  | 4 => .array .int
  | 5 => .array .int
  | 6 => .array .int
  | 7 => .array .int
  | 8 => .array .boolean
  | 9 => .int
  | 10 => .array .int
  | 11 => .array .boolean
  | 12 => .array .boolean
  | 13 => .array .int
  | 14 => .array .int
  | 15 => .array .int
  | 16 => .array .int
  | 17 => .int
  | 18 => .int
  | _ => .int
abbrev wsX00 : List Cond := u_ws RX0 TX0 20
set_option maxRecDepth 100000 in
theorem nmX0 : ∀ a, a < 20 → ∀ b, b < 20 → a ≠ b → (TX0 a).2.1 ≠ (TX0 b).2.1 := by decide +kernel
set_option maxRecDepth 100000 in
theorem tyX0_ok : ∀ k, k < 20 → parseFieldDescriptor (TX0 k).2.2.1 = some (tyX0 k) := by decide +kernel
abbrev cX0_init : ByteArray := prog_1_method_1_code
def yX0_init : MethodName := ⟨RX0, "<init>", "()V"⟩
abbrev cX0_restart : ByteArray := prog_1_method_31_code
def yX0_restart : MethodName := ⟨RX0, "restart", "()V"⟩
abbrev cX0_unusedLog : ByteArray := prog_1_method_27_code
def yX0_unusedLog : MethodName := ⟨RX0, "unusedLog", "()I"⟩
abbrev cX0_clearLog : ByteArray := prog_1_method_28_code
def yX0_clearLog : MethodName := ⟨RX0, "clearLog", "(I)V"⟩
abbrev cX0_write : ByteArray := prog_1_method_2_code
def yX0_write : MethodName := ⟨RX0, "write", "(III)I"⟩
abbrev cX0_fits : ByteArray := prog_1_method_14_code
def yX0_fits : MethodName := ⟨RX0, "fits", "(II)Z"⟩
abbrev cX0_put : ByteArray := prog_1_method_15_code
def yX0_put : MethodName := ⟨RX0, "put", "(IIIII)V"⟩
abbrev cX0_frameFor : ByteArray := prog_1_method_19_code
def yX0_frameFor : MethodName := ⟨RX0, "frameFor", "(I)I"⟩
abbrev cX0_evict : ByteArray := prog_1_method_20_code
def yX0_evict : MethodName := ⟨RX0, "evict", "(I)V"⟩
abbrev cX0_saveFrozen : ByteArray := prog_1_method_21_code
def yX0_saveFrozen : MethodName := ⟨RX0, "saveFrozen", "(I)V"⟩
abbrev cX0_save : ByteArray := prog_1_method_23_code
def yX0_save : MethodName := ⟨RX0, "save", "(II)V"⟩
abbrev cX0_load : ByteArray := prog_1_method_24_code
def yX0_load : MethodName := ⟨RX0, "load", "(II)V"⟩
abbrev cX0_newestLog : ByteArray := prog_1_method_25_code
def yX0_newestLog : MethodName := ⟨RX0, "newestLog", "(I)I"⟩
abbrev cX0_loadHome : ByteArray := prog_1_method_26_code
def yX0_loadHome : MethodName := ⟨RX0, "loadHome", "(II)V"⟩
abbrev cX0_makeWritable : ByteArray := prog_1_method_22_code
def yX0_makeWritable : MethodName := ⟨RX0, "makeWritable", "(I)V"⟩
abbrev cX0_writeKey : ByteArray := prog_1_method_3_code
def yX0_writeKey : MethodName := ⟨RX0, "writeKey", "(III)I"⟩
abbrev cX0_versionOf : ByteArray := prog_1_method_16_code
def yX0_versionOf : MethodName := ⟨RX0, "versionOf", "(I)I"⟩
abbrev cX0_copy : ByteArray := prog_1_method_4_code
def yX0_copy : MethodName := ⟨RX0, "copy", "(IIII)I"⟩
abbrev cX0_liveKey : ByteArray := prog_1_method_17_code
def yX0_liveKey : MethodName := ⟨RX0, "liveKey", "(II)I"⟩
abbrev cX0_numberIn : ByteArray := prog_1_method_18_code
def yX0_numberIn : MethodName := ⟨RX0, "numberIn", "(II)I"⟩
abbrev cX0_rescind : ByteArray := prog_1_method_5_code
def yX0_rescind : MethodName := ⟨RX0, "rescind", "(I)I"⟩
abbrev cX0_key : ByteArray := prog_1_method_6_code
def yX0_key : MethodName := ⟨RX0, "key", "(II)I"⟩
abbrev cX0_number : ByteArray := prog_1_method_7_code
def yX0_number : MethodName := ⟨RX0, "number", "(II)I"⟩
abbrev cX0_follow : ByteArray := prog_1_method_8_code
def yX0_follow : MethodName := ⟨RX0, "follow", "(III)I"⟩
abbrev cX0_snapshot : ByteArray := prog_1_method_9_code
def yX0_snapshot : MethodName := ⟨RX0, "snapshot", "()I"⟩
abbrev cX0_settle : ByteArray := prog_1_method_10_code
def yX0_settle : MethodName := ⟨RX0, "settle", "()I"⟩
abbrev cX0_moveHome : ByteArray := prog_1_method_29_code
def yX0_moveHome : MethodName := ⟨RX0, "moveHome", "(I)V"⟩
abbrev cX0_copyHome : ByteArray := prog_1_method_30_code
def yX0_copyHome : MethodName := ⟨RX0, "copyHome", "(II)V"⟩
abbrev cX0_crash : ByteArray := prog_1_method_11_code
def yX0_crash : MethodName := ⟨RX0, "crash", "()V"⟩
abbrev cX0_idle : ByteArray := prog_1_method_12_code
def yX0_idle : MethodName := ⟨RX0, "idle", "(I)V"⟩
abbrev cX0_keysTo : ByteArray := prog_1_method_13_code
def yX0_keysTo : MethodName := ⟨RX0, "keysTo", "(I)I"⟩
theorem q19 : (Jvm.Cond.initialized "CheckpointedStore") ∈ lw_all := lw_g (lw_at lw_m1 1 rfl) rfl
theorem q22 : (Jvm.Cond.instantiable "CheckpointedStore" (20 : Nat)) ∈ lw_all := lw_g (lw_at lw_m1 4 rfl) rfl
theorem q24 : (Jvm.Cond.instanceMethod ({ cls := "CheckpointedStore", name := "<init>", desc := "()V" } : Jvm.MethodName)) ∈ lw_all := lw_g (lw_at lw_m1 6 rfl) rfl
theorem q25 : (Jvm.Cond.code ({ cls := "CheckpointedStore", name := "<init>", desc := "()V" } : Jvm.MethodName) prog_1_method_1_code (2 : Nat) (Option.none : Option Jvm.ClassFile.FieldType)) ∈ lw_all := lw_g (lw_at lw_m1 7 rfl) rfl
theorem q26 : (Jvm.Cond.methodLink "CheckpointedStore" (1 : Nat) ({ cls := "java/lang/Object", name := "<init>", desc := "()V" } : Jvm.MethodName)) ∈ lw_all := lw_g (lw_at lw_m1 8 rfl) rfl
theorem q29 : (Jvm.Cond.methodLink "CheckpointedStore" (63 : Nat) ({ cls := "CheckpointedStore", name := "restart", desc := "()V" } : Jvm.MethodName)) ∈ lw_all := lw_g (lw_at lw_m1 11 rfl) rfl
theorem q30 : (Jvm.Cond.privateMethod ({ cls := "CheckpointedStore", name := "restart", desc := "()V" } : Jvm.MethodName)) ∈ lw_tbl := lw_at lw_m1 12 rfl
theorem q31 : (Jvm.Cond.instanceMethod ({ cls := "CheckpointedStore", name := "restart", desc := "()V" } : Jvm.MethodName)) ∈ lw_all := lw_g (lw_at lw_m1 13 rfl) rfl
theorem q32 : (Jvm.Cond.code ({ cls := "CheckpointedStore", name := "restart", desc := "()V" } : Jvm.MethodName) prog_1_method_31_code (2 : Nat) (Option.none : Option Jvm.ClassFile.FieldType)) ∈ lw_all := lw_g (lw_at lw_m1 14 rfl) rfl
theorem q33 : (Jvm.Cond.methodLink "CheckpointedStore" (98 : Nat) ({ cls := "CheckpointedStore", name := "unusedLog", desc := "()I" } : Jvm.MethodName)) ∈ lw_all := lw_g (lw_at lw_m1 15 rfl) rfl
theorem q34 : (Jvm.Cond.privateMethod ({ cls := "CheckpointedStore", name := "unusedLog", desc := "()I" } : Jvm.MethodName)) ∈ lw_tbl := lw_at lw_m1 16 rfl
theorem q35 : (Jvm.Cond.instanceMethod ({ cls := "CheckpointedStore", name := "unusedLog", desc := "()I" } : Jvm.MethodName)) ∈ lw_all := lw_g (lw_at lw_m1 17 rfl) rfl
theorem q36 : (Jvm.Cond.code ({ cls := "CheckpointedStore", name := "unusedLog", desc := "()I" } : Jvm.MethodName) prog_1_method_27_code (2 : Nat) (Option.some Jvm.ClassFile.FieldType.int)) ∈ lw_all := lw_g (lw_at lw_m1 18 rfl) rfl
theorem q37 : (Jvm.Cond.methodLink "CheckpointedStore" (102 : Nat) ({ cls := "CheckpointedStore", name := "clearLog", desc := "(I)V" } : Jvm.MethodName)) ∈ lw_all := lw_g (lw_at lw_m1 19 rfl) rfl
theorem q38 : (Jvm.Cond.privateMethod ({ cls := "CheckpointedStore", name := "clearLog", desc := "(I)V" } : Jvm.MethodName)) ∈ lw_tbl := lw_at lw_m1 20 rfl
theorem q39 : (Jvm.Cond.instanceMethod ({ cls := "CheckpointedStore", name := "clearLog", desc := "(I)V" } : Jvm.MethodName)) ∈ lw_all := lw_g (lw_at lw_m1 21 rfl) rfl
theorem q40 : (Jvm.Cond.code ({ cls := "CheckpointedStore", name := "clearLog", desc := "(I)V" } : Jvm.MethodName) prog_1_method_28_code (3 : Nat) (Option.none : Option Jvm.ClassFile.FieldType)) ∈ lw_all := lw_g (lw_at lw_m1 22 rfl) rfl
theorem q41 : (Jvm.Cond.fieldLink "CheckpointedStore" (7 : Nat) "CheckpointedStore" "homeNumber" "[I") ∈ lw_all := lw_g (lw_at lw_m1 23 rfl) rfl
theorem q42 : (Jvm.Cond.fieldLink "CheckpointedStore" (13 : Nat) "CheckpointedStore" "homeTarget" "[I") ∈ lw_all := lw_g (lw_at lw_m1 24 rfl) rfl
theorem q43 : (Jvm.Cond.fieldLink "CheckpointedStore" (16 : Nat) "CheckpointedStore" "homeStamp" "[I") ∈ lw_all := lw_g (lw_at lw_m1 25 rfl) rfl
theorem q44 : (Jvm.Cond.fieldLink "CheckpointedStore" (19 : Nat) "CheckpointedStore" "homeVersion" "[I") ∈ lw_all := lw_g (lw_at lw_m1 26 rfl) rfl
theorem q45 : (Jvm.Cond.fieldLink "CheckpointedStore" (22 : Nat) "CheckpointedStore" "logNumber" "[I") ∈ lw_all := lw_g (lw_at lw_m1 27 rfl) rfl
theorem q46 : (Jvm.Cond.fieldLink "CheckpointedStore" (25 : Nat) "CheckpointedStore" "logTarget" "[I") ∈ lw_all := lw_g (lw_at lw_m1 28 rfl) rfl
theorem q47 : (Jvm.Cond.fieldLink "CheckpointedStore" (28 : Nat) "CheckpointedStore" "logStamp" "[I") ∈ lw_all := lw_g (lw_at lw_m1 29 rfl) rfl
theorem q48 : (Jvm.Cond.fieldLink "CheckpointedStore" (31 : Nat) "CheckpointedStore" "logVersion" "[I") ∈ lw_all := lw_g (lw_at lw_m1 30 rfl) rfl
theorem q49 : (Jvm.Cond.fieldLink "CheckpointedStore" (34 : Nat) "CheckpointedStore" "logged" "[Z") ∈ lw_all := lw_g (lw_at lw_m1 31 rfl) rfl
theorem q50 : (Jvm.Cond.fieldLink "CheckpointedStore" (59 : Nat) "CheckpointedStore" "mark" "I") ∈ lw_all := lw_g (lw_at lw_m1 32 rfl) rfl
theorem q51 : (Jvm.Cond.fieldLink "CheckpointedStore" (38 : Nat) "CheckpointedStore" "frameNode" "[I") ∈ lw_all := lw_g (lw_at lw_m1 33 rfl) rfl
theorem q52 : (Jvm.Cond.fieldLink "CheckpointedStore" (41 : Nat) "CheckpointedStore" "dirty" "[Z") ∈ lw_all := lw_g (lw_at lw_m1 34 rfl) rfl
theorem q53 : (Jvm.Cond.fieldLink "CheckpointedStore" (44 : Nat) "CheckpointedStore" "frozen" "[Z") ∈ lw_all := lw_g (lw_at lw_m1 35 rfl) rfl
theorem q54 : (Jvm.Cond.fieldLink "CheckpointedStore" (47 : Nat) "CheckpointedStore" "frameNumber" "[I") ∈ lw_all := lw_g (lw_at lw_m1 36 rfl) rfl
theorem q55 : (Jvm.Cond.fieldLink "CheckpointedStore" (50 : Nat) "CheckpointedStore" "frameTarget" "[I") ∈ lw_all := lw_g (lw_at lw_m1 37 rfl) rfl
theorem q56 : (Jvm.Cond.fieldLink "CheckpointedStore" (53 : Nat) "CheckpointedStore" "frameStamp" "[I") ∈ lw_all := lw_g (lw_at lw_m1 38 rfl) rfl
theorem q57 : (Jvm.Cond.fieldLink "CheckpointedStore" (56 : Nat) "CheckpointedStore" "frameVersion" "[I") ∈ lw_all := lw_g (lw_at lw_m1 39 rfl) rfl
theorem q58 : (Jvm.Cond.fieldLink "CheckpointedStore" (111 : Nat) "CheckpointedStore" "hand" "I") ∈ lw_all := lw_g (lw_at lw_m1 40 rfl) rfl
theorem q59 : (Jvm.Cond.fieldLink "CheckpointedStore" (92 : Nat) "CheckpointedStore" "openLog" "I") ∈ lw_all := lw_g (lw_at lw_m1 41 rfl) rfl
theorem q60 : (Jvm.Cond.fieldLink "CheckpointedStore" (95 : Nat) "CheckpointedStore" "presentLog" "I") ∈ lw_all := lw_g (lw_at lw_m1 42 rfl) rfl
theorem q61 : (Jvm.Cond.laysFinal "CheckpointedStore" "CheckpointedStore" "homeNumber" "[I") ∈ lw_all := lw_g (lw_at lw_m1 43 rfl) rfl
theorem q62 : (Jvm.Cond.soleField "CheckpointedStore" "homeNumber") ∈ lw_all := lw_g (lw_at lw_m1 44 rfl) rfl
theorem q63 : (Jvm.Cond.laysFinal "CheckpointedStore" "CheckpointedStore" "homeTarget" "[I") ∈ lw_all := lw_g (lw_at lw_m1 45 rfl) rfl
theorem q64 : (Jvm.Cond.soleField "CheckpointedStore" "homeTarget") ∈ lw_all := lw_g (lw_at lw_m1 46 rfl) rfl
theorem q65 : (Jvm.Cond.laysFinal "CheckpointedStore" "CheckpointedStore" "homeStamp" "[I") ∈ lw_all := lw_g (lw_at lw_m1 47 rfl) rfl
theorem q66 : (Jvm.Cond.soleField "CheckpointedStore" "homeStamp") ∈ lw_all := lw_g (lw_at lw_m1 48 rfl) rfl
theorem q67 : (Jvm.Cond.laysFinal "CheckpointedStore" "CheckpointedStore" "homeVersion" "[I") ∈ lw_all := lw_g (lw_at lw_m1 49 rfl) rfl
theorem q68 : (Jvm.Cond.soleField "CheckpointedStore" "homeVersion") ∈ lw_all := lw_g (lw_at lw_m1 50 rfl) rfl
theorem q69 : (Jvm.Cond.laysFinal "CheckpointedStore" "CheckpointedStore" "logNumber" "[I") ∈ lw_all := lw_g (lw_at lw_m1 51 rfl) rfl
theorem q70 : (Jvm.Cond.soleField "CheckpointedStore" "logNumber") ∈ lw_all := lw_g (lw_at lw_m1 52 rfl) rfl
theorem q71 : (Jvm.Cond.laysFinal "CheckpointedStore" "CheckpointedStore" "logTarget" "[I") ∈ lw_all := lw_g (lw_at lw_m1 53 rfl) rfl
theorem q72 : (Jvm.Cond.soleField "CheckpointedStore" "logTarget") ∈ lw_all := lw_g (lw_at lw_m1 54 rfl) rfl
theorem q73 : (Jvm.Cond.laysFinal "CheckpointedStore" "CheckpointedStore" "logStamp" "[I") ∈ lw_all := lw_g (lw_at lw_m1 55 rfl) rfl
theorem q74 : (Jvm.Cond.soleField "CheckpointedStore" "logStamp") ∈ lw_all := lw_g (lw_at lw_m1 56 rfl) rfl
theorem q75 : (Jvm.Cond.laysFinal "CheckpointedStore" "CheckpointedStore" "logVersion" "[I") ∈ lw_all := lw_g (lw_at lw_m1 57 rfl) rfl
theorem q76 : (Jvm.Cond.soleField "CheckpointedStore" "logVersion") ∈ lw_all := lw_g (lw_at lw_m1 58 rfl) rfl
theorem q77 : (Jvm.Cond.laysFinal "CheckpointedStore" "CheckpointedStore" "logged" "[Z") ∈ lw_all := lw_g (lw_at lw_m1 59 rfl) rfl
theorem q78 : (Jvm.Cond.soleField "CheckpointedStore" "logged") ∈ lw_all := lw_g (lw_at lw_m1 60 rfl) rfl
theorem q79 : (Jvm.Cond.lays "CheckpointedStore" "CheckpointedStore" "mark" "I") ∈ lw_all := lw_g (lw_at lw_m1 61 rfl) rfl
theorem q80 : (Jvm.Cond.soleField "CheckpointedStore" "mark") ∈ lw_all := lw_g (lw_at lw_m1 62 rfl) rfl
theorem q81 : (Jvm.Cond.laysFinal "CheckpointedStore" "CheckpointedStore" "frameNode" "[I") ∈ lw_all := lw_g (lw_at lw_m1 63 rfl) rfl
theorem q82 : (Jvm.Cond.soleField "CheckpointedStore" "frameNode") ∈ lw_all := lw_g (lw_at lw_m1 64 rfl) rfl
theorem q83 : (Jvm.Cond.laysFinal "CheckpointedStore" "CheckpointedStore" "dirty" "[Z") ∈ lw_all := lw_g (lw_at lw_m1 65 rfl) rfl
theorem q84 : (Jvm.Cond.soleField "CheckpointedStore" "dirty") ∈ lw_all := lw_g (lw_at lw_m1 66 rfl) rfl
theorem q85 : (Jvm.Cond.laysFinal "CheckpointedStore" "CheckpointedStore" "frozen" "[Z") ∈ lw_all := lw_g (lw_at lw_m1 67 rfl) rfl
theorem q86 : (Jvm.Cond.soleField "CheckpointedStore" "frozen") ∈ lw_all := lw_g (lw_at lw_m1 68 rfl) rfl
theorem q87 : (Jvm.Cond.laysFinal "CheckpointedStore" "CheckpointedStore" "frameNumber" "[I") ∈ lw_all := lw_g (lw_at lw_m1 69 rfl) rfl
theorem q88 : (Jvm.Cond.soleField "CheckpointedStore" "frameNumber") ∈ lw_all := lw_g (lw_at lw_m1 70 rfl) rfl
theorem q89 : (Jvm.Cond.laysFinal "CheckpointedStore" "CheckpointedStore" "frameTarget" "[I") ∈ lw_all := lw_g (lw_at lw_m1 71 rfl) rfl
theorem q90 : (Jvm.Cond.soleField "CheckpointedStore" "frameTarget") ∈ lw_all := lw_g (lw_at lw_m1 72 rfl) rfl
theorem q91 : (Jvm.Cond.laysFinal "CheckpointedStore" "CheckpointedStore" "frameStamp" "[I") ∈ lw_all := lw_g (lw_at lw_m1 73 rfl) rfl
theorem q92 : (Jvm.Cond.soleField "CheckpointedStore" "frameStamp") ∈ lw_all := lw_g (lw_at lw_m1 74 rfl) rfl
theorem q93 : (Jvm.Cond.laysFinal "CheckpointedStore" "CheckpointedStore" "frameVersion" "[I") ∈ lw_all := lw_g (lw_at lw_m1 75 rfl) rfl
theorem q94 : (Jvm.Cond.soleField "CheckpointedStore" "frameVersion") ∈ lw_all := lw_g (lw_at lw_m1 76 rfl) rfl
theorem q95 : (Jvm.Cond.lays "CheckpointedStore" "CheckpointedStore" "hand" "I") ∈ lw_all := lw_g (lw_at lw_m1 77 rfl) rfl
theorem q96 : (Jvm.Cond.soleField "CheckpointedStore" "hand") ∈ lw_all := lw_g (lw_at lw_m1 78 rfl) rfl
theorem q97 : (Jvm.Cond.lays "CheckpointedStore" "CheckpointedStore" "openLog" "I") ∈ lw_all := lw_g (lw_at lw_m1 79 rfl) rfl
theorem q98 : (Jvm.Cond.soleField "CheckpointedStore" "openLog") ∈ lw_all := lw_g (lw_at lw_m1 80 rfl) rfl
theorem q99 : (Jvm.Cond.lays "CheckpointedStore" "CheckpointedStore" "presentLog" "I") ∈ lw_all := lw_g (lw_at lw_m1 81 rfl) rfl
theorem q100 : (Jvm.Cond.soleField "CheckpointedStore" "presentLog") ∈ lw_all := lw_g (lw_at lw_m1 82 rfl) rfl
theorem q101 : (Jvm.Cond.superclass "CheckpointedStore" "java/lang/Object") ∈ lw_all := lw_g (lw_at lw_m1 83 rfl) rfl
theorem q105 : (Jvm.Cond.instanceMethod ({ cls := "CheckpointedStore", name := "write", desc := "(III)I" } : Jvm.MethodName)) ∈ lw_all := lw_g (lw_at lw_m1 87 rfl) rfl
theorem q106 : (Jvm.Cond.selects "CheckpointedStore" ({ cls := "CheckpointedStore", name := "write", desc := "(III)I" } : Jvm.MethodName) ({ cls := "CheckpointedStore", name := "write", desc := "(III)I" } : Jvm.MethodName)) ∈ lw_all := lw_g (lw_at lw_m1 88 rfl) rfl
theorem q107 : (Jvm.Cond.code ({ cls := "CheckpointedStore", name := "write", desc := "(III)I" } : Jvm.MethodName) prog_1_method_2_code (4 : Nat) (Option.some Jvm.ClassFile.FieldType.int)) ∈ lw_all := lw_g (lw_at lw_m1 89 rfl) rfl
theorem q108 : (Jvm.Cond.methodLink "CheckpointedStore" (66 : Nat) ({ cls := "CheckpointedStore", name := "fits", desc := "(II)Z" } : Jvm.MethodName)) ∈ lw_all := lw_g (lw_at lw_m1 90 rfl) rfl
theorem q109 : (Jvm.Cond.static ({ cls := "CheckpointedStore", name := "fits", desc := "(II)Z" } : Jvm.MethodName)) ∈ lw_all := lw_g (lw_at lw_m1 91 rfl) rfl
theorem q110 : (Jvm.Cond.code ({ cls := "CheckpointedStore", name := "fits", desc := "(II)Z" } : Jvm.MethodName) prog_1_method_14_code (2 : Nat) (Option.some Jvm.ClassFile.FieldType.boolean)) ∈ lw_all := lw_g (lw_at lw_m1 92 rfl) rfl
theorem q111 : (Jvm.Cond.methodLink "CheckpointedStore" (70 : Nat) ({ cls := "CheckpointedStore", name := "put", desc := "(IIIII)V" } : Jvm.MethodName)) ∈ lw_all := lw_g (lw_at lw_m1 93 rfl) rfl
theorem q112 : (Jvm.Cond.privateMethod ({ cls := "CheckpointedStore", name := "put", desc := "(IIIII)V" } : Jvm.MethodName)) ∈ lw_tbl := lw_at lw_m1 94 rfl
theorem q113 : (Jvm.Cond.instanceMethod ({ cls := "CheckpointedStore", name := "put", desc := "(IIIII)V" } : Jvm.MethodName)) ∈ lw_all := lw_g (lw_at lw_m1 95 rfl) rfl
theorem q114 : (Jvm.Cond.code ({ cls := "CheckpointedStore", name := "put", desc := "(IIIII)V" } : Jvm.MethodName) prog_1_method_15_code (7 : Nat) (Option.none : Option Jvm.ClassFile.FieldType)) ∈ lw_all := lw_g (lw_at lw_m1 96 rfl) rfl
theorem q115 : (Jvm.Cond.methodLink "CheckpointedStore" (85 : Nat) ({ cls := "CheckpointedStore", name := "frameFor", desc := "(I)I" } : Jvm.MethodName)) ∈ lw_all := lw_g (lw_at lw_m1 97 rfl) rfl
theorem q116 : (Jvm.Cond.privateMethod ({ cls := "CheckpointedStore", name := "frameFor", desc := "(I)I" } : Jvm.MethodName)) ∈ lw_tbl := lw_at lw_m1 98 rfl
theorem q117 : (Jvm.Cond.instanceMethod ({ cls := "CheckpointedStore", name := "frameFor", desc := "(I)I" } : Jvm.MethodName)) ∈ lw_all := lw_g (lw_at lw_m1 99 rfl) rfl
theorem q118 : (Jvm.Cond.code ({ cls := "CheckpointedStore", name := "frameFor", desc := "(I)I" } : Jvm.MethodName) prog_1_method_19_code (3 : Nat) (Option.some Jvm.ClassFile.FieldType.int)) ∈ lw_all := lw_g (lw_at lw_m1 100 rfl) rfl
theorem q119 : (Jvm.Cond.methodLink "CheckpointedStore" (114 : Nat) ({ cls := "CheckpointedStore", name := "evict", desc := "(I)V" } : Jvm.MethodName)) ∈ lw_all := lw_g (lw_at lw_m1 101 rfl) rfl
theorem q120 : (Jvm.Cond.privateMethod ({ cls := "CheckpointedStore", name := "evict", desc := "(I)V" } : Jvm.MethodName)) ∈ lw_tbl := lw_at lw_m1 102 rfl
theorem q121 : (Jvm.Cond.instanceMethod ({ cls := "CheckpointedStore", name := "evict", desc := "(I)V" } : Jvm.MethodName)) ∈ lw_all := lw_g (lw_at lw_m1 103 rfl) rfl
theorem q122 : (Jvm.Cond.code ({ cls := "CheckpointedStore", name := "evict", desc := "(I)V" } : Jvm.MethodName) prog_1_method_20_code (2 : Nat) (Option.none : Option Jvm.ClassFile.FieldType)) ∈ lw_all := lw_g (lw_at lw_m1 104 rfl) rfl
theorem q123 : (Jvm.Cond.methodLink "CheckpointedStore" (105 : Nat) ({ cls := "CheckpointedStore", name := "saveFrozen", desc := "(I)V" } : Jvm.MethodName)) ∈ lw_all := lw_g (lw_at lw_m1 105 rfl) rfl
theorem q124 : (Jvm.Cond.privateMethod ({ cls := "CheckpointedStore", name := "saveFrozen", desc := "(I)V" } : Jvm.MethodName)) ∈ lw_tbl := lw_at lw_m1 106 rfl
theorem q125 : (Jvm.Cond.instanceMethod ({ cls := "CheckpointedStore", name := "saveFrozen", desc := "(I)V" } : Jvm.MethodName)) ∈ lw_all := lw_g (lw_at lw_m1 107 rfl) rfl
theorem q126 : (Jvm.Cond.code ({ cls := "CheckpointedStore", name := "saveFrozen", desc := "(I)V" } : Jvm.MethodName) prog_1_method_21_code (2 : Nat) (Option.none : Option Jvm.ClassFile.FieldType)) ∈ lw_all := lw_g (lw_at lw_m1 108 rfl) rfl
theorem q127 : (Jvm.Cond.methodLink "CheckpointedStore" (121 : Nat) ({ cls := "CheckpointedStore", name := "save", desc := "(II)V" } : Jvm.MethodName)) ∈ lw_all := lw_g (lw_at lw_m1 109 rfl) rfl
theorem q128 : (Jvm.Cond.privateMethod ({ cls := "CheckpointedStore", name := "save", desc := "(II)V" } : Jvm.MethodName)) ∈ lw_tbl := lw_at lw_m1 110 rfl
theorem q129 : (Jvm.Cond.instanceMethod ({ cls := "CheckpointedStore", name := "save", desc := "(II)V" } : Jvm.MethodName)) ∈ lw_all := lw_g (lw_at lw_m1 111 rfl) rfl
theorem q130 : (Jvm.Cond.code ({ cls := "CheckpointedStore", name := "save", desc := "(II)V" } : Jvm.MethodName) prog_1_method_23_code (6 : Nat) (Option.none : Option Jvm.ClassFile.FieldType)) ∈ lw_all := lw_g (lw_at lw_m1 112 rfl) rfl
theorem q131 : (Jvm.Cond.methodLink "CheckpointedStore" (117 : Nat) ({ cls := "CheckpointedStore", name := "load", desc := "(II)V" } : Jvm.MethodName)) ∈ lw_all := lw_g (lw_at lw_m1 113 rfl) rfl
theorem q132 : (Jvm.Cond.privateMethod ({ cls := "CheckpointedStore", name := "load", desc := "(II)V" } : Jvm.MethodName)) ∈ lw_tbl := lw_at lw_m1 114 rfl
theorem q133 : (Jvm.Cond.instanceMethod ({ cls := "CheckpointedStore", name := "load", desc := "(II)V" } : Jvm.MethodName)) ∈ lw_all := lw_g (lw_at lw_m1 115 rfl) rfl
theorem q134 : (Jvm.Cond.code ({ cls := "CheckpointedStore", name := "load", desc := "(II)V" } : Jvm.MethodName) prog_1_method_24_code (6 : Nat) (Option.none : Option Jvm.ClassFile.FieldType)) ∈ lw_all := lw_g (lw_at lw_m1 116 rfl) rfl
theorem q135 : (Jvm.Cond.methodLink "CheckpointedStore" (124 : Nat) ({ cls := "CheckpointedStore", name := "newestLog", desc := "(I)I" } : Jvm.MethodName)) ∈ lw_all := lw_g (lw_at lw_m1 117 rfl) rfl
theorem q136 : (Jvm.Cond.privateMethod ({ cls := "CheckpointedStore", name := "newestLog", desc := "(I)I" } : Jvm.MethodName)) ∈ lw_tbl := lw_at lw_m1 118 rfl
theorem q137 : (Jvm.Cond.instanceMethod ({ cls := "CheckpointedStore", name := "newestLog", desc := "(I)I" } : Jvm.MethodName)) ∈ lw_all := lw_g (lw_at lw_m1 119 rfl) rfl
theorem q138 : (Jvm.Cond.code ({ cls := "CheckpointedStore", name := "newestLog", desc := "(I)I" } : Jvm.MethodName) prog_1_method_25_code (2 : Nat) (Option.some Jvm.ClassFile.FieldType.int)) ∈ lw_all := lw_g (lw_at lw_m1 120 rfl) rfl
theorem q139 : (Jvm.Cond.methodLink "CheckpointedStore" (127 : Nat) ({ cls := "CheckpointedStore", name := "loadHome", desc := "(II)V" } : Jvm.MethodName)) ∈ lw_all := lw_g (lw_at lw_m1 121 rfl) rfl
theorem q140 : (Jvm.Cond.privateMethod ({ cls := "CheckpointedStore", name := "loadHome", desc := "(II)V" } : Jvm.MethodName)) ∈ lw_tbl := lw_at lw_m1 122 rfl
theorem q141 : (Jvm.Cond.instanceMethod ({ cls := "CheckpointedStore", name := "loadHome", desc := "(II)V" } : Jvm.MethodName)) ∈ lw_all := lw_g (lw_at lw_m1 123 rfl) rfl
theorem q142 : (Jvm.Cond.code ({ cls := "CheckpointedStore", name := "loadHome", desc := "(II)V" } : Jvm.MethodName) prog_1_method_26_code (4 : Nat) (Option.none : Option Jvm.ClassFile.FieldType)) ∈ lw_all := lw_g (lw_at lw_m1 124 rfl) rfl
theorem q143 : (Jvm.Cond.methodLink "CheckpointedStore" (88 : Nat) ({ cls := "CheckpointedStore", name := "makeWritable", desc := "(I)V" } : Jvm.MethodName)) ∈ lw_all := lw_g (lw_at lw_m1 125 rfl) rfl
theorem q144 : (Jvm.Cond.privateMethod ({ cls := "CheckpointedStore", name := "makeWritable", desc := "(I)V" } : Jvm.MethodName)) ∈ lw_tbl := lw_at lw_m1 126 rfl
theorem q145 : (Jvm.Cond.instanceMethod ({ cls := "CheckpointedStore", name := "makeWritable", desc := "(I)V" } : Jvm.MethodName)) ∈ lw_all := lw_g (lw_at lw_m1 127 rfl) rfl
theorem q146 : (Jvm.Cond.code ({ cls := "CheckpointedStore", name := "makeWritable", desc := "(I)V" } : Jvm.MethodName) prog_1_method_22_code (2 : Nat) (Option.none : Option Jvm.ClassFile.FieldType)) ∈ lw_all := lw_g (lw_at lw_m1 128 rfl) rfl
theorem q148 : (Jvm.Cond.instanceMethod ({ cls := "CheckpointedStore", name := "writeKey", desc := "(III)I" } : Jvm.MethodName)) ∈ lw_all := lw_g (lw_at lw_m1 130 rfl) rfl
theorem q149 : (Jvm.Cond.selects "CheckpointedStore" ({ cls := "CheckpointedStore", name := "writeKey", desc := "(III)I" } : Jvm.MethodName) ({ cls := "CheckpointedStore", name := "writeKey", desc := "(III)I" } : Jvm.MethodName)) ∈ lw_all := lw_g (lw_at lw_m1 131 rfl) rfl
theorem q150 : (Jvm.Cond.code ({ cls := "CheckpointedStore", name := "writeKey", desc := "(III)I" } : Jvm.MethodName) prog_1_method_3_code (5 : Nat) (Option.some Jvm.ClassFile.FieldType.int)) ∈ lw_all := lw_g (lw_at lw_m1 132 rfl) rfl
theorem q151 : (Jvm.Cond.methodLink "CheckpointedStore" (74 : Nat) ({ cls := "CheckpointedStore", name := "versionOf", desc := "(I)I" } : Jvm.MethodName)) ∈ lw_all := lw_g (lw_at lw_m1 133 rfl) rfl
theorem q152 : (Jvm.Cond.privateMethod ({ cls := "CheckpointedStore", name := "versionOf", desc := "(I)I" } : Jvm.MethodName)) ∈ lw_tbl := lw_at lw_m1 134 rfl
theorem q153 : (Jvm.Cond.instanceMethod ({ cls := "CheckpointedStore", name := "versionOf", desc := "(I)I" } : Jvm.MethodName)) ∈ lw_all := lw_g (lw_at lw_m1 135 rfl) rfl
theorem q154 : (Jvm.Cond.code ({ cls := "CheckpointedStore", name := "versionOf", desc := "(I)I" } : Jvm.MethodName) prog_1_method_16_code (3 : Nat) (Option.some Jvm.ClassFile.FieldType.int)) ∈ lw_all := lw_g (lw_at lw_m1 136 rfl) rfl
theorem q156 : (Jvm.Cond.instanceMethod ({ cls := "CheckpointedStore", name := "copy", desc := "(IIII)I" } : Jvm.MethodName)) ∈ lw_all := lw_g (lw_at lw_m1 138 rfl) rfl
theorem q157 : (Jvm.Cond.selects "CheckpointedStore" ({ cls := "CheckpointedStore", name := "copy", desc := "(IIII)I" } : Jvm.MethodName) ({ cls := "CheckpointedStore", name := "copy", desc := "(IIII)I" } : Jvm.MethodName)) ∈ lw_all := lw_g (lw_at lw_m1 139 rfl) rfl
theorem q158 : (Jvm.Cond.code ({ cls := "CheckpointedStore", name := "copy", desc := "(IIII)I" } : Jvm.MethodName) prog_1_method_4_code (8 : Nat) (Option.some Jvm.ClassFile.FieldType.int)) ∈ lw_all := lw_g (lw_at lw_m1 140 rfl) rfl
theorem q159 : (Jvm.Cond.methodLink "CheckpointedStore" (78 : Nat) ({ cls := "CheckpointedStore", name := "liveKey", desc := "(II)I" } : Jvm.MethodName)) ∈ lw_all := lw_g (lw_at lw_m1 141 rfl) rfl
theorem q160 : (Jvm.Cond.privateMethod ({ cls := "CheckpointedStore", name := "liveKey", desc := "(II)I" } : Jvm.MethodName)) ∈ lw_tbl := lw_at lw_m1 142 rfl
theorem q161 : (Jvm.Cond.instanceMethod ({ cls := "CheckpointedStore", name := "liveKey", desc := "(II)I" } : Jvm.MethodName)) ∈ lw_all := lw_g (lw_at lw_m1 143 rfl) rfl
theorem q162 : (Jvm.Cond.code ({ cls := "CheckpointedStore", name := "liveKey", desc := "(II)I" } : Jvm.MethodName) prog_1_method_17_code (7 : Nat) (Option.some Jvm.ClassFile.FieldType.int)) ∈ lw_all := lw_g (lw_at lw_m1 144 rfl) rfl
theorem q163 : (Jvm.Cond.methodLink "CheckpointedStore" (82 : Nat) ({ cls := "CheckpointedStore", name := "numberIn", desc := "(II)I" } : Jvm.MethodName)) ∈ lw_all := lw_g (lw_at lw_m1 145 rfl) rfl
theorem q164 : (Jvm.Cond.privateMethod ({ cls := "CheckpointedStore", name := "numberIn", desc := "(II)I" } : Jvm.MethodName)) ∈ lw_tbl := lw_at lw_m1 146 rfl
theorem q165 : (Jvm.Cond.instanceMethod ({ cls := "CheckpointedStore", name := "numberIn", desc := "(II)I" } : Jvm.MethodName)) ∈ lw_all := lw_g (lw_at lw_m1 147 rfl) rfl
theorem q166 : (Jvm.Cond.code ({ cls := "CheckpointedStore", name := "numberIn", desc := "(II)I" } : Jvm.MethodName) prog_1_method_18_code (4 : Nat) (Option.some Jvm.ClassFile.FieldType.int)) ∈ lw_all := lw_g (lw_at lw_m1 148 rfl) rfl
theorem q168 : (Jvm.Cond.instanceMethod ({ cls := "CheckpointedStore", name := "rescind", desc := "(I)I" } : Jvm.MethodName)) ∈ lw_all := lw_g (lw_at lw_m1 150 rfl) rfl
theorem q169 : (Jvm.Cond.selects "CheckpointedStore" ({ cls := "CheckpointedStore", name := "rescind", desc := "(I)I" } : Jvm.MethodName) ({ cls := "CheckpointedStore", name := "rescind", desc := "(I)I" } : Jvm.MethodName)) ∈ lw_all := lw_g (lw_at lw_m1 151 rfl) rfl
theorem q170 : (Jvm.Cond.code ({ cls := "CheckpointedStore", name := "rescind", desc := "(I)I" } : Jvm.MethodName) prog_1_method_5_code (4 : Nat) (Option.some Jvm.ClassFile.FieldType.int)) ∈ lw_all := lw_g (lw_at lw_m1 152 rfl) rfl
theorem q172 : (Jvm.Cond.instanceMethod ({ cls := "CheckpointedStore", name := "key", desc := "(II)I" } : Jvm.MethodName)) ∈ lw_all := lw_g (lw_at lw_m1 154 rfl) rfl
theorem q173 : (Jvm.Cond.selects "CheckpointedStore" ({ cls := "CheckpointedStore", name := "key", desc := "(II)I" } : Jvm.MethodName) ({ cls := "CheckpointedStore", name := "key", desc := "(II)I" } : Jvm.MethodName)) ∈ lw_all := lw_g (lw_at lw_m1 155 rfl) rfl
theorem q174 : (Jvm.Cond.code ({ cls := "CheckpointedStore", name := "key", desc := "(II)I" } : Jvm.MethodName) prog_1_method_6_code (4 : Nat) (Option.some Jvm.ClassFile.FieldType.int)) ∈ lw_all := lw_g (lw_at lw_m1 156 rfl) rfl
theorem q176 : (Jvm.Cond.instanceMethod ({ cls := "CheckpointedStore", name := "number", desc := "(II)I" } : Jvm.MethodName)) ∈ lw_all := lw_g (lw_at lw_m1 158 rfl) rfl
theorem q177 : (Jvm.Cond.selects "CheckpointedStore" ({ cls := "CheckpointedStore", name := "number", desc := "(II)I" } : Jvm.MethodName) ({ cls := "CheckpointedStore", name := "number", desc := "(II)I" } : Jvm.MethodName)) ∈ lw_all := lw_g (lw_at lw_m1 159 rfl) rfl
theorem q178 : (Jvm.Cond.code ({ cls := "CheckpointedStore", name := "number", desc := "(II)I" } : Jvm.MethodName) prog_1_method_7_code (3 : Nat) (Option.some Jvm.ClassFile.FieldType.int)) ∈ lw_all := lw_g (lw_at lw_m1 160 rfl) rfl
theorem q180 : (Jvm.Cond.instanceMethod ({ cls := "CheckpointedStore", name := "follow", desc := "(III)I" } : Jvm.MethodName)) ∈ lw_all := lw_g (lw_at lw_m1 162 rfl) rfl
theorem q181 : (Jvm.Cond.selects "CheckpointedStore" ({ cls := "CheckpointedStore", name := "follow", desc := "(III)I" } : Jvm.MethodName) ({ cls := "CheckpointedStore", name := "follow", desc := "(III)I" } : Jvm.MethodName)) ∈ lw_all := lw_g (lw_at lw_m1 163 rfl) rfl
theorem q182 : (Jvm.Cond.code ({ cls := "CheckpointedStore", name := "follow", desc := "(III)I" } : Jvm.MethodName) prog_1_method_8_code (6 : Nat) (Option.some Jvm.ClassFile.FieldType.int)) ∈ lw_all := lw_g (lw_at lw_m1 164 rfl) rfl
theorem q184 : (Jvm.Cond.instanceMethod ({ cls := "CheckpointedStore", name := "snapshot", desc := "()I" } : Jvm.MethodName)) ∈ lw_all := lw_g (lw_at lw_m1 166 rfl) rfl
theorem q185 : (Jvm.Cond.selects "CheckpointedStore" ({ cls := "CheckpointedStore", name := "snapshot", desc := "()I" } : Jvm.MethodName) ({ cls := "CheckpointedStore", name := "snapshot", desc := "()I" } : Jvm.MethodName)) ∈ lw_all := lw_g (lw_at lw_m1 167 rfl) rfl
theorem q186 : (Jvm.Cond.code ({ cls := "CheckpointedStore", name := "snapshot", desc := "()I" } : Jvm.MethodName) prog_1_method_9_code (2 : Nat) (Option.some Jvm.ClassFile.FieldType.int)) ∈ lw_all := lw_g (lw_at lw_m1 168 rfl) rfl
theorem q188 : (Jvm.Cond.instanceMethod ({ cls := "CheckpointedStore", name := "settle", desc := "()I" } : Jvm.MethodName)) ∈ lw_all := lw_g (lw_at lw_m1 170 rfl) rfl
theorem q189 : (Jvm.Cond.selects "CheckpointedStore" ({ cls := "CheckpointedStore", name := "settle", desc := "()I" } : Jvm.MethodName) ({ cls := "CheckpointedStore", name := "settle", desc := "()I" } : Jvm.MethodName)) ∈ lw_all := lw_g (lw_at lw_m1 171 rfl) rfl
theorem q190 : (Jvm.Cond.code ({ cls := "CheckpointedStore", name := "settle", desc := "()I" } : Jvm.MethodName) prog_1_method_10_code (2 : Nat) (Option.some Jvm.ClassFile.FieldType.int)) ∈ lw_all := lw_g (lw_at lw_m1 172 rfl) rfl
theorem q191 : (Jvm.Cond.methodLink "CheckpointedStore" (108 : Nat) ({ cls := "CheckpointedStore", name := "moveHome", desc := "(I)V" } : Jvm.MethodName)) ∈ lw_all := lw_g (lw_at lw_m1 173 rfl) rfl
theorem q192 : (Jvm.Cond.privateMethod ({ cls := "CheckpointedStore", name := "moveHome", desc := "(I)V" } : Jvm.MethodName)) ∈ lw_tbl := lw_at lw_m1 174 rfl
theorem q193 : (Jvm.Cond.instanceMethod ({ cls := "CheckpointedStore", name := "moveHome", desc := "(I)V" } : Jvm.MethodName)) ∈ lw_all := lw_g (lw_at lw_m1 175 rfl) rfl
theorem q194 : (Jvm.Cond.code ({ cls := "CheckpointedStore", name := "moveHome", desc := "(I)V" } : Jvm.MethodName) prog_1_method_29_code (5 : Nat) (Option.none : Option Jvm.ClassFile.FieldType)) ∈ lw_all := lw_g (lw_at lw_m1 176 rfl) rfl
theorem q195 : (Jvm.Cond.methodLink "CheckpointedStore" (130 : Nat) ({ cls := "CheckpointedStore", name := "copyHome", desc := "(II)V" } : Jvm.MethodName)) ∈ lw_all := lw_g (lw_at lw_m1 177 rfl) rfl
theorem q196 : (Jvm.Cond.privateMethod ({ cls := "CheckpointedStore", name := "copyHome", desc := "(II)V" } : Jvm.MethodName)) ∈ lw_tbl := lw_at lw_m1 178 rfl
theorem q197 : (Jvm.Cond.instanceMethod ({ cls := "CheckpointedStore", name := "copyHome", desc := "(II)V" } : Jvm.MethodName)) ∈ lw_all := lw_g (lw_at lw_m1 179 rfl) rfl
theorem q198 : (Jvm.Cond.code ({ cls := "CheckpointedStore", name := "copyHome", desc := "(II)V" } : Jvm.MethodName) prog_1_method_30_code (4 : Nat) (Option.none : Option Jvm.ClassFile.FieldType)) ∈ lw_all := lw_g (lw_at lw_m1 180 rfl) rfl
theorem q200 : (Jvm.Cond.instanceMethod ({ cls := "CheckpointedStore", name := "crash", desc := "()V" } : Jvm.MethodName)) ∈ lw_all := lw_g (lw_at lw_m1 182 rfl) rfl
theorem q201 : (Jvm.Cond.selects "CheckpointedStore" ({ cls := "CheckpointedStore", name := "crash", desc := "()V" } : Jvm.MethodName) ({ cls := "CheckpointedStore", name := "crash", desc := "()V" } : Jvm.MethodName)) ∈ lw_all := lw_g (lw_at lw_m1 183 rfl) rfl
theorem q202 : (Jvm.Cond.code ({ cls := "CheckpointedStore", name := "crash", desc := "()V" } : Jvm.MethodName) prog_1_method_11_code (1 : Nat) (Option.none : Option Jvm.ClassFile.FieldType)) ∈ lw_all := lw_g (lw_at lw_m1 184 rfl) rfl
theorem q204 : (Jvm.Cond.instanceMethod ({ cls := "CheckpointedStore", name := "idle", desc := "(I)V" } : Jvm.MethodName)) ∈ lw_all := lw_g (lw_at lw_m1 186 rfl) rfl
theorem q205 : (Jvm.Cond.selects "CheckpointedStore" ({ cls := "CheckpointedStore", name := "idle", desc := "(I)V" } : Jvm.MethodName) ({ cls := "CheckpointedStore", name := "idle", desc := "(I)V" } : Jvm.MethodName)) ∈ lw_all := lw_g (lw_at lw_m1 187 rfl) rfl
theorem q206 : (Jvm.Cond.code ({ cls := "CheckpointedStore", name := "idle", desc := "(I)V" } : Jvm.MethodName) prog_1_method_12_code (3 : Nat) (Option.none : Option Jvm.ClassFile.FieldType)) ∈ lw_all := lw_g (lw_at lw_m1 188 rfl) rfl
theorem q208 : (Jvm.Cond.instanceMethod ({ cls := "CheckpointedStore", name := "keysTo", desc := "(I)I" } : Jvm.MethodName)) ∈ lw_all := lw_g (lw_at lw_m1 190 rfl) rfl
theorem q209 : (Jvm.Cond.selects "CheckpointedStore" ({ cls := "CheckpointedStore", name := "keysTo", desc := "(I)I" } : Jvm.MethodName) ({ cls := "CheckpointedStore", name := "keysTo", desc := "(I)I" } : Jvm.MethodName)) ∈ lw_all := lw_g (lw_at lw_m1 191 rfl) rfl
theorem q210 : (Jvm.Cond.code ({ cls := "CheckpointedStore", name := "keysTo", desc := "(I)I" } : Jvm.MethodName) prog_1_method_13_code (7 : Nat) (Option.some Jvm.ClassFile.FieldType.int)) ∈ lw_all := lw_g (lw_at lw_m1 192 rfl) rfl
theorem in_X0 : ∀ w ∈ wsX00, w ∈ lw_all := lw_in wsX00 [61, 63, 65, 67, 69, 71, 73, 75, 77, 79, 81, 83, 85, 87, 89, 91, 93, 95, 97, 99] (by decide +kernel) (by decide +kernel)
/-! CheckpointedStoreModel -/
set_option maxRecDepth 100000
def RX1 : String := "CheckpointedStoreModel"
def TX1 : u_T := fun k => match k with
  | 0 => ("CheckpointedStoreModel", "isKey", "[Z", true)
  | 1 => ("CheckpointedStoreModel", "held", "[I", true)
  | 2 => ("CheckpointedStoreModel", "open", "Z", false)
  | 3 => ("CheckpointedStoreModel", "openKey", "[Z", true)
  | 4 => ("CheckpointedStoreModel", "openHeld", "[I", true)
  | 5 => ("CheckpointedStoreModel", "settledKey", "[Z", true)
  | _ => ("CheckpointedStoreModel", "settledHeld", "[I", true)
def tyX1 : Nat → FieldType := fun k => match k with
  | 0 => .array .boolean
  | 1 => .array .int
  | 2 => .boolean
  | 3 => .array .boolean
  | 4 => .array .int
  | 5 => .array .boolean
  | _ => .array .int
abbrev wsX10 : List Cond := u_ws RX1 TX1 7
theorem nmX1 : ∀ a, a < 7 → ∀ b, b < 7 → a ≠ b → (TX1 a).2.1 ≠ (TX1 b).2.1 := by decide +kernel
theorem tyX1_ok : ∀ k, k < 7 → parseFieldDescriptor (TX1 k).2.2.1 = some (tyX1 k) := by decide +kernel
abbrev cX1_init : ByteArray := prog_3_method_1_code
def yX1_init : MethodName := ⟨RX1, "<init>", "()V"⟩
abbrev cX1_write : ByteArray := prog_3_method_5_code
def yX1_write : MethodName := ⟨RX1, "write", "(III)I"⟩
abbrev cX1_bad : ByteArray := prog_3_method_3_code
def yX1_bad : MethodName := ⟨RX1, "bad", "(II)Z"⟩
abbrev cX1_badNode : ByteArray := prog_3_method_2_code
def yX1_badNode : MethodName := ⟨RX1, "badNode", "(I)Z"⟩
abbrev cX1_set : ByteArray := prog_3_method_4_code
def yX1_set : MethodName := ⟨RX1, "set", "(IZI)V"⟩
abbrev cX1_writeKey : ByteArray := prog_3_method_6_code
def yX1_writeKey : MethodName := ⟨RX1, "writeKey", "(III)I"⟩
abbrev cX1_copy : ByteArray := prog_3_method_7_code
def yX1_copy : MethodName := ⟨RX1, "copy", "(IIII)I"⟩
abbrev cX1_rescind : ByteArray := prog_3_method_8_code
def yX1_rescind : MethodName := ⟨RX1, "rescind", "(I)I"⟩
abbrev cX1_key : ByteArray := prog_3_method_9_code
def yX1_key : MethodName := ⟨RX1, "key", "(II)I"⟩
abbrev cX1_number : ByteArray := prog_3_method_10_code
def yX1_number : MethodName := ⟨RX1, "number", "(II)I"⟩
abbrev cX1_follow : ByteArray := prog_3_method_11_code
def yX1_follow : MethodName := ⟨RX1, "follow", "(III)I"⟩
abbrev cX1_snapshot : ByteArray := prog_3_method_12_code
def yX1_snapshot : MethodName := ⟨RX1, "snapshot", "()I"⟩
abbrev cX1_settle : ByteArray := prog_3_method_13_code
def yX1_settle : MethodName := ⟨RX1, "settle", "()I"⟩
abbrev cX1_crash : ByteArray := prog_3_method_14_code
def yX1_crash : MethodName := ⟨RX1, "crash", "()V"⟩
abbrev cX1_idle : ByteArray := prog_3_method_15_code
def yX1_idle : MethodName := ⟨RX1, "idle", "(I)V"⟩
abbrev cX1_keysTo : ByteArray := prog_3_method_16_code
def yX1_keysTo : MethodName := ⟨RX1, "keysTo", "(I)I"⟩
theorem q20 : (Jvm.Cond.initialized "CheckpointedStoreModel") ∈ lw_all := lw_g (lw_at lw_m1 2 rfl) rfl
theorem q212 : (Jvm.Cond.instantiable "CheckpointedStoreModel" (7 : Nat)) ∈ lw_all := lw_g (lw_at lw_m1 194 rfl) rfl
theorem q214 : (Jvm.Cond.instanceMethod ({ cls := "CheckpointedStoreModel", name := "<init>", desc := "()V" } : Jvm.MethodName)) ∈ lw_all := lw_g (lw_at lw_m1 196 rfl) rfl
theorem q215 : (Jvm.Cond.code ({ cls := "CheckpointedStoreModel", name := "<init>", desc := "()V" } : Jvm.MethodName) prog_3_method_1_code (1 : Nat) (Option.none : Option Jvm.ClassFile.FieldType)) ∈ lw_all := lw_g (lw_at lw_m1 197 rfl) rfl
theorem q216 : (Jvm.Cond.methodLink "CheckpointedStoreModel" (1 : Nat) ({ cls := "java/lang/Object", name := "<init>", desc := "()V" } : Jvm.MethodName)) ∈ lw_all := lw_g (lw_at lw_m1 198 rfl) rfl
theorem q217 : (Jvm.Cond.fieldLink "CheckpointedStoreModel" (7 : Nat) "CheckpointedStoreModel" "isKey" "[Z") ∈ lw_all := lw_g (lw_at lw_m1 199 rfl) rfl
theorem q218 : (Jvm.Cond.fieldLink "CheckpointedStoreModel" (13 : Nat) "CheckpointedStoreModel" "held" "[I") ∈ lw_all := lw_g (lw_at lw_m1 200 rfl) rfl
theorem q219 : (Jvm.Cond.fieldLink "CheckpointedStoreModel" (41 : Nat) "CheckpointedStoreModel" "open" "Z") ∈ lw_all := lw_g (lw_at lw_m1 201 rfl) rfl
theorem q220 : (Jvm.Cond.fieldLink "CheckpointedStoreModel" (17 : Nat) "CheckpointedStoreModel" "openKey" "[Z") ∈ lw_all := lw_g (lw_at lw_m1 202 rfl) rfl
theorem q221 : (Jvm.Cond.fieldLink "CheckpointedStoreModel" (20 : Nat) "CheckpointedStoreModel" "openHeld" "[I") ∈ lw_all := lw_g (lw_at lw_m1 203 rfl) rfl
theorem q222 : (Jvm.Cond.fieldLink "CheckpointedStoreModel" (23 : Nat) "CheckpointedStoreModel" "settledKey" "[Z") ∈ lw_all := lw_g (lw_at lw_m1 204 rfl) rfl
theorem q223 : (Jvm.Cond.fieldLink "CheckpointedStoreModel" (26 : Nat) "CheckpointedStoreModel" "settledHeld" "[I") ∈ lw_all := lw_g (lw_at lw_m1 205 rfl) rfl
theorem q224 : (Jvm.Cond.laysFinal "CheckpointedStoreModel" "CheckpointedStoreModel" "isKey" "[Z") ∈ lw_all := lw_g (lw_at lw_m1 206 rfl) rfl
theorem q225 : (Jvm.Cond.soleField "CheckpointedStoreModel" "isKey") ∈ lw_all := lw_g (lw_at lw_m1 207 rfl) rfl
theorem q226 : (Jvm.Cond.laysFinal "CheckpointedStoreModel" "CheckpointedStoreModel" "held" "[I") ∈ lw_all := lw_g (lw_at lw_m1 208 rfl) rfl
theorem q227 : (Jvm.Cond.soleField "CheckpointedStoreModel" "held") ∈ lw_all := lw_g (lw_at lw_m1 209 rfl) rfl
theorem q228 : (Jvm.Cond.lays "CheckpointedStoreModel" "CheckpointedStoreModel" "open" "Z") ∈ lw_all := lw_g (lw_at lw_m1 210 rfl) rfl
theorem q229 : (Jvm.Cond.soleField "CheckpointedStoreModel" "open") ∈ lw_all := lw_g (lw_at lw_m1 211 rfl) rfl
theorem q230 : (Jvm.Cond.laysFinal "CheckpointedStoreModel" "CheckpointedStoreModel" "openKey" "[Z") ∈ lw_all := lw_g (lw_at lw_m1 212 rfl) rfl
theorem q231 : (Jvm.Cond.soleField "CheckpointedStoreModel" "openKey") ∈ lw_all := lw_g (lw_at lw_m1 213 rfl) rfl
theorem q232 : (Jvm.Cond.laysFinal "CheckpointedStoreModel" "CheckpointedStoreModel" "openHeld" "[I") ∈ lw_all := lw_g (lw_at lw_m1 214 rfl) rfl
theorem q233 : (Jvm.Cond.soleField "CheckpointedStoreModel" "openHeld") ∈ lw_all := lw_g (lw_at lw_m1 215 rfl) rfl
theorem q234 : (Jvm.Cond.laysFinal "CheckpointedStoreModel" "CheckpointedStoreModel" "settledKey" "[Z") ∈ lw_all := lw_g (lw_at lw_m1 216 rfl) rfl
theorem q235 : (Jvm.Cond.soleField "CheckpointedStoreModel" "settledKey") ∈ lw_all := lw_g (lw_at lw_m1 217 rfl) rfl
theorem q236 : (Jvm.Cond.laysFinal "CheckpointedStoreModel" "CheckpointedStoreModel" "settledHeld" "[I") ∈ lw_all := lw_g (lw_at lw_m1 218 rfl) rfl
theorem q237 : (Jvm.Cond.soleField "CheckpointedStoreModel" "settledHeld") ∈ lw_all := lw_g (lw_at lw_m1 219 rfl) rfl
theorem q238 : (Jvm.Cond.superclass "CheckpointedStoreModel" "java/lang/Object") ∈ lw_all := lw_g (lw_at lw_m1 220 rfl) rfl
theorem q240 : (Jvm.Cond.instanceMethod ({ cls := "CheckpointedStoreModel", name := "write", desc := "(III)I" } : Jvm.MethodName)) ∈ lw_all := lw_g (lw_at lw_m1 222 rfl) rfl
theorem q241 : (Jvm.Cond.selects "CheckpointedStoreModel" ({ cls := "CheckpointedStoreModel", name := "write", desc := "(III)I" } : Jvm.MethodName) ({ cls := "CheckpointedStoreModel", name := "write", desc := "(III)I" } : Jvm.MethodName)) ∈ lw_all := lw_g (lw_at lw_m1 223 rfl) rfl
theorem q242 : (Jvm.Cond.code ({ cls := "CheckpointedStoreModel", name := "write", desc := "(III)I" } : Jvm.MethodName) prog_3_method_5_code (4 : Nat) (Option.some Jvm.ClassFile.FieldType.int)) ∈ lw_all := lw_g (lw_at lw_m1 224 rfl) rfl
theorem q243 : (Jvm.Cond.methodLink "CheckpointedStoreModel" (33 : Nat) ({ cls := "CheckpointedStoreModel", name := "bad", desc := "(II)Z" } : Jvm.MethodName)) ∈ lw_all := lw_g (lw_at lw_m1 225 rfl) rfl
theorem q244 : (Jvm.Cond.static ({ cls := "CheckpointedStoreModel", name := "bad", desc := "(II)Z" } : Jvm.MethodName)) ∈ lw_all := lw_g (lw_at lw_m1 226 rfl) rfl
theorem q245 : (Jvm.Cond.code ({ cls := "CheckpointedStoreModel", name := "bad", desc := "(II)Z" } : Jvm.MethodName) prog_3_method_3_code (2 : Nat) (Option.some Jvm.ClassFile.FieldType.boolean)) ∈ lw_all := lw_g (lw_at lw_m1 227 rfl) rfl
theorem q246 : (Jvm.Cond.methodLink "CheckpointedStoreModel" (29 : Nat) ({ cls := "CheckpointedStoreModel", name := "badNode", desc := "(I)Z" } : Jvm.MethodName)) ∈ lw_all := lw_g (lw_at lw_m1 228 rfl) rfl
theorem q247 : (Jvm.Cond.static ({ cls := "CheckpointedStoreModel", name := "badNode", desc := "(I)Z" } : Jvm.MethodName)) ∈ lw_all := lw_g (lw_at lw_m1 229 rfl) rfl
theorem q248 : (Jvm.Cond.code ({ cls := "CheckpointedStoreModel", name := "badNode", desc := "(I)Z" } : Jvm.MethodName) prog_3_method_2_code (1 : Nat) (Option.some Jvm.ClassFile.FieldType.boolean)) ∈ lw_all := lw_g (lw_at lw_m1 230 rfl) rfl
theorem q249 : (Jvm.Cond.methodLink "CheckpointedStoreModel" (37 : Nat) ({ cls := "CheckpointedStoreModel", name := "set", desc := "(IZI)V" } : Jvm.MethodName)) ∈ lw_all := lw_g (lw_at lw_m1 231 rfl) rfl
theorem q250 : (Jvm.Cond.privateMethod ({ cls := "CheckpointedStoreModel", name := "set", desc := "(IZI)V" } : Jvm.MethodName)) ∈ lw_tbl := lw_at lw_m1 232 rfl
theorem q251 : (Jvm.Cond.instanceMethod ({ cls := "CheckpointedStoreModel", name := "set", desc := "(IZI)V" } : Jvm.MethodName)) ∈ lw_all := lw_g (lw_at lw_m1 233 rfl) rfl
theorem q252 : (Jvm.Cond.code ({ cls := "CheckpointedStoreModel", name := "set", desc := "(IZI)V" } : Jvm.MethodName) prog_3_method_4_code (4 : Nat) (Option.none : Option Jvm.ClassFile.FieldType)) ∈ lw_all := lw_g (lw_at lw_m1 234 rfl) rfl
theorem q254 : (Jvm.Cond.instanceMethod ({ cls := "CheckpointedStoreModel", name := "writeKey", desc := "(III)I" } : Jvm.MethodName)) ∈ lw_all := lw_g (lw_at lw_m1 236 rfl) rfl
theorem q255 : (Jvm.Cond.selects "CheckpointedStoreModel" ({ cls := "CheckpointedStoreModel", name := "writeKey", desc := "(III)I" } : Jvm.MethodName) ({ cls := "CheckpointedStoreModel", name := "writeKey", desc := "(III)I" } : Jvm.MethodName)) ∈ lw_all := lw_g (lw_at lw_m1 237 rfl) rfl
theorem q256 : (Jvm.Cond.code ({ cls := "CheckpointedStoreModel", name := "writeKey", desc := "(III)I" } : Jvm.MethodName) prog_3_method_6_code (4 : Nat) (Option.some Jvm.ClassFile.FieldType.int)) ∈ lw_all := lw_g (lw_at lw_m1 238 rfl) rfl
theorem q258 : (Jvm.Cond.instanceMethod ({ cls := "CheckpointedStoreModel", name := "copy", desc := "(IIII)I" } : Jvm.MethodName)) ∈ lw_all := lw_g (lw_at lw_m2 0 rfl) rfl
theorem q259 : (Jvm.Cond.selects "CheckpointedStoreModel" ({ cls := "CheckpointedStoreModel", name := "copy", desc := "(IIII)I" } : Jvm.MethodName) ({ cls := "CheckpointedStoreModel", name := "copy", desc := "(IIII)I" } : Jvm.MethodName)) ∈ lw_all := lw_g (lw_at lw_m2 1 rfl) rfl
theorem q260 : (Jvm.Cond.code ({ cls := "CheckpointedStoreModel", name := "copy", desc := "(IIII)I" } : Jvm.MethodName) prog_3_method_7_code (5 : Nat) (Option.some Jvm.ClassFile.FieldType.int)) ∈ lw_all := lw_g (lw_at lw_m2 2 rfl) rfl
theorem q262 : (Jvm.Cond.instanceMethod ({ cls := "CheckpointedStoreModel", name := "rescind", desc := "(I)I" } : Jvm.MethodName)) ∈ lw_all := lw_g (lw_at lw_m2 4 rfl) rfl
theorem q263 : (Jvm.Cond.selects "CheckpointedStoreModel" ({ cls := "CheckpointedStoreModel", name := "rescind", desc := "(I)I" } : Jvm.MethodName) ({ cls := "CheckpointedStoreModel", name := "rescind", desc := "(I)I" } : Jvm.MethodName)) ∈ lw_all := lw_g (lw_at lw_m2 5 rfl) rfl
theorem q264 : (Jvm.Cond.code ({ cls := "CheckpointedStoreModel", name := "rescind", desc := "(I)I" } : Jvm.MethodName) prog_3_method_8_code (3 : Nat) (Option.some Jvm.ClassFile.FieldType.int)) ∈ lw_all := lw_g (lw_at lw_m2 6 rfl) rfl
theorem q266 : (Jvm.Cond.instanceMethod ({ cls := "CheckpointedStoreModel", name := "key", desc := "(II)I" } : Jvm.MethodName)) ∈ lw_all := lw_g (lw_at lw_m2 8 rfl) rfl
theorem q267 : (Jvm.Cond.selects "CheckpointedStoreModel" ({ cls := "CheckpointedStoreModel", name := "key", desc := "(II)I" } : Jvm.MethodName) ({ cls := "CheckpointedStoreModel", name := "key", desc := "(II)I" } : Jvm.MethodName)) ∈ lw_all := lw_g (lw_at lw_m2 9 rfl) rfl
theorem q268 : (Jvm.Cond.code ({ cls := "CheckpointedStoreModel", name := "key", desc := "(II)I" } : Jvm.MethodName) prog_3_method_9_code (3 : Nat) (Option.some Jvm.ClassFile.FieldType.int)) ∈ lw_all := lw_g (lw_at lw_m2 10 rfl) rfl
theorem q270 : (Jvm.Cond.instanceMethod ({ cls := "CheckpointedStoreModel", name := "number", desc := "(II)I" } : Jvm.MethodName)) ∈ lw_all := lw_g (lw_at lw_m2 12 rfl) rfl
theorem q271 : (Jvm.Cond.selects "CheckpointedStoreModel" ({ cls := "CheckpointedStoreModel", name := "number", desc := "(II)I" } : Jvm.MethodName) ({ cls := "CheckpointedStoreModel", name := "number", desc := "(II)I" } : Jvm.MethodName)) ∈ lw_all := lw_g (lw_at lw_m2 13 rfl) rfl
theorem q272 : (Jvm.Cond.code ({ cls := "CheckpointedStoreModel", name := "number", desc := "(II)I" } : Jvm.MethodName) prog_3_method_10_code (3 : Nat) (Option.some Jvm.ClassFile.FieldType.int)) ∈ lw_all := lw_g (lw_at lw_m2 14 rfl) rfl
theorem q274 : (Jvm.Cond.instanceMethod ({ cls := "CheckpointedStoreModel", name := "follow", desc := "(III)I" } : Jvm.MethodName)) ∈ lw_all := lw_g (lw_at lw_m2 16 rfl) rfl
theorem q275 : (Jvm.Cond.selects "CheckpointedStoreModel" ({ cls := "CheckpointedStoreModel", name := "follow", desc := "(III)I" } : Jvm.MethodName) ({ cls := "CheckpointedStoreModel", name := "follow", desc := "(III)I" } : Jvm.MethodName)) ∈ lw_all := lw_g (lw_at lw_m2 17 rfl) rfl
theorem q276 : (Jvm.Cond.code ({ cls := "CheckpointedStoreModel", name := "follow", desc := "(III)I" } : Jvm.MethodName) prog_3_method_11_code (7 : Nat) (Option.some Jvm.ClassFile.FieldType.int)) ∈ lw_all := lw_g (lw_at lw_m2 18 rfl) rfl
theorem q278 : (Jvm.Cond.instanceMethod ({ cls := "CheckpointedStoreModel", name := "snapshot", desc := "()I" } : Jvm.MethodName)) ∈ lw_all := lw_g (lw_at lw_m2 20 rfl) rfl
theorem q279 : (Jvm.Cond.selects "CheckpointedStoreModel" ({ cls := "CheckpointedStoreModel", name := "snapshot", desc := "()I" } : Jvm.MethodName) ({ cls := "CheckpointedStoreModel", name := "snapshot", desc := "()I" } : Jvm.MethodName)) ∈ lw_all := lw_g (lw_at lw_m2 21 rfl) rfl
theorem q280 : (Jvm.Cond.code ({ cls := "CheckpointedStoreModel", name := "snapshot", desc := "()I" } : Jvm.MethodName) prog_3_method_12_code (2 : Nat) (Option.some Jvm.ClassFile.FieldType.int)) ∈ lw_all := lw_g (lw_at lw_m2 22 rfl) rfl
theorem q282 : (Jvm.Cond.instanceMethod ({ cls := "CheckpointedStoreModel", name := "settle", desc := "()I" } : Jvm.MethodName)) ∈ lw_all := lw_g (lw_at lw_m2 24 rfl) rfl
theorem q283 : (Jvm.Cond.selects "CheckpointedStoreModel" ({ cls := "CheckpointedStoreModel", name := "settle", desc := "()I" } : Jvm.MethodName) ({ cls := "CheckpointedStoreModel", name := "settle", desc := "()I" } : Jvm.MethodName)) ∈ lw_all := lw_g (lw_at lw_m2 25 rfl) rfl
theorem q284 : (Jvm.Cond.code ({ cls := "CheckpointedStoreModel", name := "settle", desc := "()I" } : Jvm.MethodName) prog_3_method_13_code (2 : Nat) (Option.some Jvm.ClassFile.FieldType.int)) ∈ lw_all := lw_g (lw_at lw_m2 26 rfl) rfl
theorem q286 : (Jvm.Cond.instanceMethod ({ cls := "CheckpointedStoreModel", name := "crash", desc := "()V" } : Jvm.MethodName)) ∈ lw_all := lw_g (lw_at lw_m2 28 rfl) rfl
theorem q287 : (Jvm.Cond.selects "CheckpointedStoreModel" ({ cls := "CheckpointedStoreModel", name := "crash", desc := "()V" } : Jvm.MethodName) ({ cls := "CheckpointedStoreModel", name := "crash", desc := "()V" } : Jvm.MethodName)) ∈ lw_all := lw_g (lw_at lw_m2 29 rfl) rfl
theorem q288 : (Jvm.Cond.code ({ cls := "CheckpointedStoreModel", name := "crash", desc := "()V" } : Jvm.MethodName) prog_3_method_14_code (2 : Nat) (Option.none : Option Jvm.ClassFile.FieldType)) ∈ lw_all := lw_g (lw_at lw_m2 30 rfl) rfl
theorem q290 : (Jvm.Cond.instanceMethod ({ cls := "CheckpointedStoreModel", name := "idle", desc := "(I)V" } : Jvm.MethodName)) ∈ lw_all := lw_g (lw_at lw_m2 32 rfl) rfl
theorem q291 : (Jvm.Cond.selects "CheckpointedStoreModel" ({ cls := "CheckpointedStoreModel", name := "idle", desc := "(I)V" } : Jvm.MethodName) ({ cls := "CheckpointedStoreModel", name := "idle", desc := "(I)V" } : Jvm.MethodName)) ∈ lw_all := lw_g (lw_at lw_m2 33 rfl) rfl
theorem q292 : (Jvm.Cond.code ({ cls := "CheckpointedStoreModel", name := "idle", desc := "(I)V" } : Jvm.MethodName) prog_3_method_15_code (2 : Nat) (Option.none : Option Jvm.ClassFile.FieldType)) ∈ lw_all := lw_g (lw_at lw_m2 34 rfl) rfl
theorem q294 : (Jvm.Cond.instanceMethod ({ cls := "CheckpointedStoreModel", name := "keysTo", desc := "(I)I" } : Jvm.MethodName)) ∈ lw_all := lw_g (lw_at lw_m2 36 rfl) rfl
theorem q295 : (Jvm.Cond.selects "CheckpointedStoreModel" ({ cls := "CheckpointedStoreModel", name := "keysTo", desc := "(I)I" } : Jvm.MethodName) ({ cls := "CheckpointedStoreModel", name := "keysTo", desc := "(I)I" } : Jvm.MethodName)) ∈ lw_all := lw_g (lw_at lw_m2 37 rfl) rfl
theorem q296 : (Jvm.Cond.code ({ cls := "CheckpointedStoreModel", name := "keysTo", desc := "(I)I" } : Jvm.MethodName) prog_3_method_16_code (4 : Nat) (Option.some Jvm.ClassFile.FieldType.int)) ∈ lw_all := lw_g (lw_at lw_m2 38 rfl) rfl
theorem in_X1 : ∀ w ∈ wsX10, w ∈ lw_all := lw_in wsX10 [224, 226, 228, 230, 232, 234, 236] (by decide +kernel) (by decide +kernel)
/-! java/lang/Object -/
set_option maxRecDepth 100000
def RJ0 : String := "java/lang/Object"
abbrev cJ0_init : ByteArray := object_method_1_code
def yJ0_init : MethodName := ⟨RJ0, "<init>", "()V"⟩
theorem q27 : (Jvm.Cond.instanceMethod ({ cls := "java/lang/Object", name := "<init>", desc := "()V" } : Jvm.MethodName)) ∈ lw_all := lw_g (lw_at lw_m1 9 rfl) rfl
theorem q28 : (Jvm.Cond.code ({ cls := "java/lang/Object", name := "<init>", desc := "()V" } : Jvm.MethodName) object_method_1_code (1 : Nat) (Option.none : Option Jvm.ClassFile.FieldType)) ∈ lw_all := lw_g (lw_at lw_m1 10 rfl) rfl
/-! the law's own entry -/
set_option maxRecDepth 100000
abbrev cL_law : ByteArray := code
theorem q18 : (Jvm.Cond.initialized "CheckpointedStoreLaw") ∈ lw_all := lw_g (lw_at lw_m1 0 rfl) rfl
set_option maxRecDepth 100000
theorem q21 : (Jvm.Cond.classLink "CheckpointedStoreLaw" (7 : Nat) "CheckpointedStore") ∈ lw_all := lw_g (lw_at lw_m1 3 rfl) rfl
theorem q23 : (Jvm.Cond.methodLink "CheckpointedStoreLaw" (9 : Nat) ({ cls := "CheckpointedStore", name := "<init>", desc := "()V" } : Jvm.MethodName)) ∈ lw_all := lw_g (lw_at lw_m1 5 rfl) rfl
theorem q104 : (Jvm.Cond.methodLink "CheckpointedStoreLaw" (13 : Nat) ({ cls := "CheckpointedStore", name := "write", desc := "(III)I" } : Jvm.MethodName)) ∈ lw_all := lw_g (lw_at lw_m1 86 rfl) rfl
theorem q147 : (Jvm.Cond.methodLink "CheckpointedStoreLaw" (18 : Nat) ({ cls := "CheckpointedStore", name := "writeKey", desc := "(III)I" } : Jvm.MethodName)) ∈ lw_all := lw_g (lw_at lw_m1 129 rfl) rfl
theorem q155 : (Jvm.Cond.methodLink "CheckpointedStoreLaw" (22 : Nat) ({ cls := "CheckpointedStore", name := "copy", desc := "(IIII)I" } : Jvm.MethodName)) ∈ lw_all := lw_g (lw_at lw_m1 137 rfl) rfl
theorem q167 : (Jvm.Cond.methodLink "CheckpointedStoreLaw" (27 : Nat) ({ cls := "CheckpointedStore", name := "rescind", desc := "(I)I" } : Jvm.MethodName)) ∈ lw_all := lw_g (lw_at lw_m1 149 rfl) rfl
theorem q171 : (Jvm.Cond.methodLink "CheckpointedStoreLaw" (32 : Nat) ({ cls := "CheckpointedStore", name := "key", desc := "(II)I" } : Jvm.MethodName)) ∈ lw_all := lw_g (lw_at lw_m1 153 rfl) rfl
theorem q175 : (Jvm.Cond.methodLink "CheckpointedStoreLaw" (37 : Nat) ({ cls := "CheckpointedStore", name := "number", desc := "(II)I" } : Jvm.MethodName)) ∈ lw_all := lw_g (lw_at lw_m1 157 rfl) rfl
theorem q179 : (Jvm.Cond.methodLink "CheckpointedStoreLaw" (41 : Nat) ({ cls := "CheckpointedStore", name := "follow", desc := "(III)I" } : Jvm.MethodName)) ∈ lw_all := lw_g (lw_at lw_m1 161 rfl) rfl
theorem q183 : (Jvm.Cond.methodLink "CheckpointedStoreLaw" (45 : Nat) ({ cls := "CheckpointedStore", name := "snapshot", desc := "()I" } : Jvm.MethodName)) ∈ lw_all := lw_g (lw_at lw_m1 165 rfl) rfl
theorem q187 : (Jvm.Cond.methodLink "CheckpointedStoreLaw" (50 : Nat) ({ cls := "CheckpointedStore", name := "settle", desc := "()I" } : Jvm.MethodName)) ∈ lw_all := lw_g (lw_at lw_m1 169 rfl) rfl
theorem q199 : (Jvm.Cond.methodLink "CheckpointedStoreLaw" (54 : Nat) ({ cls := "CheckpointedStore", name := "crash", desc := "()V" } : Jvm.MethodName)) ∈ lw_all := lw_g (lw_at lw_m1 181 rfl) rfl
theorem q203 : (Jvm.Cond.methodLink "CheckpointedStoreLaw" (58 : Nat) ({ cls := "CheckpointedStore", name := "idle", desc := "(I)V" } : Jvm.MethodName)) ∈ lw_all := lw_g (lw_at lw_m1 185 rfl) rfl
theorem q207 : (Jvm.Cond.methodLink "CheckpointedStoreLaw" (63 : Nat) ({ cls := "CheckpointedStore", name := "keysTo", desc := "(I)I" } : Jvm.MethodName)) ∈ lw_all := lw_g (lw_at lw_m1 189 rfl) rfl
theorem q211 : (Jvm.Cond.classLink "CheckpointedStoreLaw" (10 : Nat) "CheckpointedStoreModel") ∈ lw_all := lw_g (lw_at lw_m1 193 rfl) rfl
theorem q213 : (Jvm.Cond.methodLink "CheckpointedStoreLaw" (12 : Nat) ({ cls := "CheckpointedStoreModel", name := "<init>", desc := "()V" } : Jvm.MethodName)) ∈ lw_all := lw_g (lw_at lw_m1 195 rfl) rfl
theorem q239 : (Jvm.Cond.methodLink "CheckpointedStoreLaw" (17 : Nat) ({ cls := "CheckpointedStoreModel", name := "write", desc := "(III)I" } : Jvm.MethodName)) ∈ lw_all := lw_g (lw_at lw_m1 221 rfl) rfl
theorem q253 : (Jvm.Cond.methodLink "CheckpointedStoreLaw" (21 : Nat) ({ cls := "CheckpointedStoreModel", name := "writeKey", desc := "(III)I" } : Jvm.MethodName)) ∈ lw_all := lw_g (lw_at lw_m1 235 rfl) rfl
theorem q257 : (Jvm.Cond.methodLink "CheckpointedStoreLaw" (26 : Nat) ({ cls := "CheckpointedStoreModel", name := "copy", desc := "(IIII)I" } : Jvm.MethodName)) ∈ lw_all := lw_g (lw_at lw_m1 239 rfl) rfl
theorem q261 : (Jvm.Cond.methodLink "CheckpointedStoreLaw" (31 : Nat) ({ cls := "CheckpointedStoreModel", name := "rescind", desc := "(I)I" } : Jvm.MethodName)) ∈ lw_all := lw_g (lw_at lw_m2 3 rfl) rfl
theorem q265 : (Jvm.Cond.methodLink "CheckpointedStoreLaw" (36 : Nat) ({ cls := "CheckpointedStoreModel", name := "key", desc := "(II)I" } : Jvm.MethodName)) ∈ lw_all := lw_g (lw_at lw_m2 7 rfl) rfl
theorem q269 : (Jvm.Cond.methodLink "CheckpointedStoreLaw" (40 : Nat) ({ cls := "CheckpointedStoreModel", name := "number", desc := "(II)I" } : Jvm.MethodName)) ∈ lw_all := lw_g (lw_at lw_m2 11 rfl) rfl
theorem q273 : (Jvm.Cond.methodLink "CheckpointedStoreLaw" (44 : Nat) ({ cls := "CheckpointedStoreModel", name := "follow", desc := "(III)I" } : Jvm.MethodName)) ∈ lw_all := lw_g (lw_at lw_m2 15 rfl) rfl
theorem q277 : (Jvm.Cond.methodLink "CheckpointedStoreLaw" (49 : Nat) ({ cls := "CheckpointedStoreModel", name := "snapshot", desc := "()I" } : Jvm.MethodName)) ∈ lw_all := lw_g (lw_at lw_m2 19 rfl) rfl
theorem q281 : (Jvm.Cond.methodLink "CheckpointedStoreLaw" (53 : Nat) ({ cls := "CheckpointedStoreModel", name := "settle", desc := "()I" } : Jvm.MethodName)) ∈ lw_all := lw_g (lw_at lw_m2 23 rfl) rfl
theorem q285 : (Jvm.Cond.methodLink "CheckpointedStoreLaw" (57 : Nat) ({ cls := "CheckpointedStoreModel", name := "crash", desc := "()V" } : Jvm.MethodName)) ∈ lw_all := lw_g (lw_at lw_m2 27 rfl) rfl
theorem q289 : (Jvm.Cond.methodLink "CheckpointedStoreLaw" (62 : Nat) ({ cls := "CheckpointedStoreModel", name := "idle", desc := "(I)V" } : Jvm.MethodName)) ∈ lw_all := lw_g (lw_at lw_m2 31 rfl) rfl
theorem q293 : (Jvm.Cond.methodLink "CheckpointedStoreLaw" (66 : Nat) ({ cls := "CheckpointedStoreModel", name := "keysTo", desc := "(I)I" } : Jvm.MethodName)) ∈ lw_all := lw_g (lw_at lw_m2 35 rfl) rfl
theorem q102 : (Jvm.Cond.arrayClass Jvm.ClassFile.FieldType.int) ∈ lw_all := lw_g (lw_at lw_m1 84 rfl) rfl
set_option maxRecDepth 100000
theorem q103 : (Jvm.Cond.arrayClass Jvm.ClassFile.FieldType.boolean) ∈ lw_all := lw_g (lw_at lw_m1 85 rfl) rfl
end
section
set_option maxRecDepth 100000
theorem dX0_init_0 : decode cX0_init 0 = .ok (.aload_n 0, 1) := by decide +kernel
theorem dX0_init_1 : decode cX0_init 1 = .ok (.invokespecial 1, 3) := by decide +kernel
theorem dX0_init_4 : decode cX0_init 4 = .ok (.aload_n 0, 1) := by decide +kernel
theorem dX0_init_5 : decode cX0_init 5 = .ok (.bipush 64, 2) := by decide +kernel
theorem dX0_init_7 : decode cX0_init 7 = .ok (.newarray .int, 2) := by decide +kernel
theorem dX0_init_9 : decode cX0_init 9 = .ok (.putfield 7, 3) := by decide +kernel
theorem dX0_init_12 : decode cX0_init 12 = .ok (.aload_n 0, 1) := by decide +kernel
theorem dX0_init_13 : decode cX0_init 13 = .ok (.bipush 64, 2) := by decide +kernel
theorem dX0_init_15 : decode cX0_init 15 = .ok (.newarray .int, 2) := by decide +kernel
theorem dX0_init_17 : decode cX0_init 17 = .ok (.putfield 13, 3) := by decide +kernel
theorem dX0_init_20 : decode cX0_init 20 = .ok (.aload_n 0, 1) := by decide +kernel
theorem dX0_init_21 : decode cX0_init 21 = .ok (.bipush 64, 2) := by decide +kernel
theorem dX0_init_23 : decode cX0_init 23 = .ok (.newarray .int, 2) := by decide +kernel
theorem dX0_init_25 : decode cX0_init 25 = .ok (.putfield 16, 3) := by decide +kernel
theorem dX0_init_28 : decode cX0_init 28 = .ok (.aload_n 0, 1) := by decide +kernel
theorem dX0_init_29 : decode cX0_init 29 = .ok (.bipush 16, 2) := by decide +kernel
theorem dX0_init_31 : decode cX0_init 31 = .ok (.newarray .int, 2) := by decide +kernel
theorem dX0_init_33 : decode cX0_init 33 = .ok (.putfield 19, 3) := by decide +kernel
theorem dX0_init_36 : decode cX0_init 36 = .ok (.aload_n 0, 1) := by decide +kernel
theorem dX0_init_37 : decode cX0_init 37 = .ok (.sipush 192, 3) := by decide +kernel
theorem dX0_init_40 : decode cX0_init 40 = .ok (.newarray .int, 2) := by decide +kernel
theorem dX0_init_42 : decode cX0_init 42 = .ok (.putfield 22, 3) := by decide +kernel
theorem dX0_init_45 : decode cX0_init 45 = .ok (.aload_n 0, 1) := by decide +kernel
theorem dX0_init_46 : decode cX0_init 46 = .ok (.sipush 192, 3) := by decide +kernel
theorem dX0_init_49 : decode cX0_init 49 = .ok (.newarray .int, 2) := by decide +kernel
theorem dX0_init_51 : decode cX0_init 51 = .ok (.putfield 25, 3) := by decide +kernel
theorem dX0_init_54 : decode cX0_init 54 = .ok (.aload_n 0, 1) := by decide +kernel
theorem dX0_init_55 : decode cX0_init 55 = .ok (.sipush 192, 3) := by decide +kernel
theorem dX0_init_58 : decode cX0_init 58 = .ok (.newarray .int, 2) := by decide +kernel
theorem dX0_init_60 : decode cX0_init 60 = .ok (.putfield 28, 3) := by decide +kernel
theorem dX0_init_63 : decode cX0_init 63 = .ok (.aload_n 0, 1) := by decide +kernel
theorem dX0_init_64 : decode cX0_init 64 = .ok (.bipush 48, 2) := by decide +kernel
theorem dX0_init_66 : decode cX0_init 66 = .ok (.newarray .int, 2) := by decide +kernel
theorem dX0_init_68 : decode cX0_init 68 = .ok (.putfield 31, 3) := by decide +kernel
theorem dX0_init_71 : decode cX0_init 71 = .ok (.aload_n 0, 1) := by decide +kernel
theorem dX0_init_72 : decode cX0_init 72 = .ok (.bipush 48, 2) := by decide +kernel
theorem dX0_init_74 : decode cX0_init 74 = .ok (.newarray .boolean, 2) := by decide +kernel
theorem dX0_init_76 : decode cX0_init 76 = .ok (.putfield 34, 3) := by decide +kernel
theorem dX0_init_79 : decode cX0_init 79 = .ok (.aload_n 0, 1) := by decide +kernel
theorem dX0_init_80 : decode cX0_init 80 = .ok (.iconst 5, 1) := by decide +kernel
theorem dX0_init_81 : decode cX0_init 81 = .ok (.newarray .int, 2) := by decide +kernel
theorem dX0_init_83 : decode cX0_init 83 = .ok (.putfield 38, 3) := by decide +kernel
theorem dX0_init_86 : decode cX0_init 86 = .ok (.aload_n 0, 1) := by decide +kernel
theorem dX0_init_87 : decode cX0_init 87 = .ok (.iconst 5, 1) := by decide +kernel
theorem dX0_init_88 : decode cX0_init 88 = .ok (.newarray .boolean, 2) := by decide +kernel
theorem dX0_init_90 : decode cX0_init 90 = .ok (.putfield 41, 3) := by decide +kernel
theorem dX0_init_93 : decode cX0_init 93 = .ok (.aload_n 0, 1) := by decide +kernel
theorem dX0_init_94 : decode cX0_init 94 = .ok (.iconst 5, 1) := by decide +kernel
theorem dX0_init_95 : decode cX0_init 95 = .ok (.newarray .boolean, 2) := by decide +kernel
theorem dX0_init_97 : decode cX0_init 97 = .ok (.putfield 44, 3) := by decide +kernel
theorem dX0_init_100 : decode cX0_init 100 = .ok (.aload_n 0, 1) := by decide +kernel
theorem dX0_init_101 : decode cX0_init 101 = .ok (.bipush 20, 2) := by decide +kernel
theorem dX0_init_103 : decode cX0_init 103 = .ok (.newarray .int, 2) := by decide +kernel
theorem dX0_init_105 : decode cX0_init 105 = .ok (.putfield 47, 3) := by decide +kernel
theorem dX0_init_108 : decode cX0_init 108 = .ok (.aload_n 0, 1) := by decide +kernel
theorem dX0_init_109 : decode cX0_init 109 = .ok (.bipush 20, 2) := by decide +kernel
theorem dX0_init_111 : decode cX0_init 111 = .ok (.newarray .int, 2) := by decide +kernel
theorem dX0_init_113 : decode cX0_init 113 = .ok (.putfield 50, 3) := by decide +kernel
theorem dX0_init_116 : decode cX0_init 116 = .ok (.aload_n 0, 1) := by decide +kernel
theorem dX0_init_117 : decode cX0_init 117 = .ok (.bipush 20, 2) := by decide +kernel
theorem dX0_init_119 : decode cX0_init 119 = .ok (.newarray .int, 2) := by decide +kernel
theorem dX0_init_121 : decode cX0_init 121 = .ok (.putfield 53, 3) := by decide +kernel
theorem dX0_init_124 : decode cX0_init 124 = .ok (.aload_n 0, 1) := by decide +kernel
theorem dX0_init_125 : decode cX0_init 125 = .ok (.iconst 5, 1) := by decide +kernel
theorem dX0_init_126 : decode cX0_init 126 = .ok (.newarray .int, 2) := by decide +kernel
theorem dX0_init_128 : decode cX0_init 128 = .ok (.putfield 56, 3) := by decide +kernel
theorem dX0_init_131 : decode cX0_init 131 = .ok (.aload_n 0, 1) := by decide +kernel
theorem dX0_init_132 : decode cX0_init 132 = .ok (.iconst (-1), 1) := by decide +kernel
theorem dX0_init_133 : decode cX0_init 133 = .ok (.putfield 59, 3) := by decide +kernel
theorem dX0_init_136 : decode cX0_init 136 = .ok (.iconst 0, 1) := by decide +kernel
theorem dX0_init_137 : decode cX0_init 137 = .ok (.istore_n 1, 1) := by decide +kernel
theorem dX0_init_138 : decode cX0_init 138 = .ok (.iload_n 1, 1) := by decide +kernel
theorem dX0_init_139 : decode cX0_init 139 = .ok (.bipush 64, 2) := by decide +kernel
theorem dX0_init_141 : decode cX0_init 141 = .ok (.if_icmp .ge 16, 3) := by decide +kernel
theorem dX0_init_144 : decode cX0_init 144 = .ok (.aload_n 0, 1) := by decide +kernel
theorem dX0_init_145 : decode cX0_init 145 = .ok (.getfield 13, 3) := by decide +kernel
theorem dX0_init_148 : decode cX0_init 148 = .ok (.iload_n 1, 1) := by decide +kernel
theorem dX0_init_149 : decode cX0_init 149 = .ok (.iconst (-1), 1) := by decide +kernel
theorem dX0_init_150 : decode cX0_init 150 = .ok (.iastore, 1) := by decide +kernel
theorem dX0_init_151 : decode cX0_init 151 = .ok (.iinc 1 1, 3) := by decide +kernel
theorem dX0_init_154 : decode cX0_init 154 = .ok (.goto (-16), 3) := by decide +kernel
theorem dX0_init_157 : decode cX0_init 157 = .ok (.aload_n 0, 1) := by decide +kernel
theorem dX0_init_158 : decode cX0_init 158 = .ok (.invokevirtual 63, 3) := by decide +kernel
theorem dX0_init_161 : decode cX0_init 161 = .ok (.return_, 1) := by decide +kernel
theorem dX0_restart_0 : decode cX0_restart 0 = .ok (.iconst 0, 1) := by decide +kernel
theorem dX0_restart_1 : decode cX0_restart 1 = .ok (.istore_n 1, 1) := by decide +kernel
theorem dX0_restart_2 : decode cX0_restart 2 = .ok (.iload_n 1, 1) := by decide +kernel
theorem dX0_restart_3 : decode cX0_restart 3 = .ok (.iconst 5, 1) := by decide +kernel
theorem dX0_restart_4 : decode cX0_restart 4 = .ok (.if_icmp .ge 30, 3) := by decide +kernel
theorem dX0_restart_7 : decode cX0_restart 7 = .ok (.aload_n 0, 1) := by decide +kernel
theorem dX0_restart_8 : decode cX0_restart 8 = .ok (.getfield 38, 3) := by decide +kernel
theorem dX0_restart_11 : decode cX0_restart 11 = .ok (.iload_n 1, 1) := by decide +kernel
theorem dX0_restart_12 : decode cX0_restart 12 = .ok (.iconst (-1), 1) := by decide +kernel
theorem dX0_restart_13 : decode cX0_restart 13 = .ok (.iastore, 1) := by decide +kernel
theorem dX0_restart_14 : decode cX0_restart 14 = .ok (.aload_n 0, 1) := by decide +kernel
theorem dX0_restart_15 : decode cX0_restart 15 = .ok (.getfield 41, 3) := by decide +kernel
theorem dX0_restart_18 : decode cX0_restart 18 = .ok (.iload_n 1, 1) := by decide +kernel
theorem dX0_restart_19 : decode cX0_restart 19 = .ok (.iconst 0, 1) := by decide +kernel
theorem dX0_restart_20 : decode cX0_restart 20 = .ok (.bastore, 1) := by decide +kernel
theorem dX0_restart_21 : decode cX0_restart 21 = .ok (.aload_n 0, 1) := by decide +kernel
theorem dX0_restart_22 : decode cX0_restart 22 = .ok (.getfield 44, 3) := by decide +kernel
theorem dX0_restart_25 : decode cX0_restart 25 = .ok (.iload_n 1, 1) := by decide +kernel
theorem dX0_restart_26 : decode cX0_restart 26 = .ok (.iconst 0, 1) := by decide +kernel
theorem dX0_restart_27 : decode cX0_restart 27 = .ok (.bastore, 1) := by decide +kernel
theorem dX0_restart_28 : decode cX0_restart 28 = .ok (.iinc 1 1, 3) := by decide +kernel
theorem dX0_restart_31 : decode cX0_restart 31 = .ok (.goto (-29), 3) := by decide +kernel
theorem dX0_restart_34 : decode cX0_restart 34 = .ok (.aload_n 0, 1) := by decide +kernel
theorem dX0_restart_35 : decode cX0_restart 35 = .ok (.iconst 0, 1) := by decide +kernel
theorem dX0_restart_36 : decode cX0_restart 36 = .ok (.putfield 111, 3) := by decide +kernel
theorem dX0_restart_39 : decode cX0_restart 39 = .ok (.aload_n 0, 1) := by decide +kernel
theorem dX0_restart_40 : decode cX0_restart 40 = .ok (.iconst (-1), 1) := by decide +kernel
theorem dX0_restart_41 : decode cX0_restart 41 = .ok (.putfield 92, 3) := by decide +kernel
theorem dX0_restart_44 : decode cX0_restart 44 = .ok (.aload_n 0, 1) := by decide +kernel
theorem dX0_restart_45 : decode cX0_restart 45 = .ok (.aload_n 0, 1) := by decide +kernel
theorem dX0_restart_46 : decode cX0_restart 46 = .ok (.invokevirtual 98, 3) := by decide +kernel
theorem dX0_restart_49 : decode cX0_restart 49 = .ok (.putfield 95, 3) := by decide +kernel
theorem dX0_restart_52 : decode cX0_restart 52 = .ok (.aload_n 0, 1) := by decide +kernel
theorem dX0_restart_53 : decode cX0_restart 53 = .ok (.aload_n 0, 1) := by decide +kernel
theorem dX0_restart_54 : decode cX0_restart 54 = .ok (.getfield 95, 3) := by decide +kernel
theorem dX0_restart_57 : decode cX0_restart 57 = .ok (.invokevirtual 102, 3) := by decide +kernel
theorem dX0_restart_60 : decode cX0_restart 60 = .ok (.return_, 1) := by decide +kernel
theorem dX0_unusedLog_0 : decode cX0_unusedLog 0 = .ok (.iconst 0, 1) := by decide +kernel
theorem dX0_unusedLog_1 : decode cX0_unusedLog 1 = .ok (.istore_n 1, 1) := by decide +kernel
theorem dX0_unusedLog_2 : decode cX0_unusedLog 2 = .ok (.iload_n 1, 1) := by decide +kernel
theorem dX0_unusedLog_3 : decode cX0_unusedLog 3 = .ok (.iconst 3, 1) := by decide +kernel
theorem dX0_unusedLog_4 : decode cX0_unusedLog 4 = .ok (.if_icmp .ge 27, 3) := by decide +kernel
theorem dX0_unusedLog_7 : decode cX0_unusedLog 7 = .ok (.iload_n 1, 1) := by decide +kernel
theorem dX0_unusedLog_8 : decode cX0_unusedLog 8 = .ok (.aload_n 0, 1) := by decide +kernel
theorem dX0_unusedLog_9 : decode cX0_unusedLog 9 = .ok (.getfield 59, 3) := by decide +kernel
theorem dX0_unusedLog_12 : decode cX0_unusedLog 12 = .ok (.if_icmp .eq 13, 3) := by decide +kernel
theorem dX0_unusedLog_15 : decode cX0_unusedLog 15 = .ok (.iload_n 1, 1) := by decide +kernel
theorem dX0_unusedLog_16 : decode cX0_unusedLog 16 = .ok (.aload_n 0, 1) := by decide +kernel
theorem dX0_unusedLog_17 : decode cX0_unusedLog 17 = .ok (.getfield 92, 3) := by decide +kernel
theorem dX0_unusedLog_20 : decode cX0_unusedLog 20 = .ok (.if_icmp .eq 5, 3) := by decide +kernel
theorem dX0_unusedLog_23 : decode cX0_unusedLog 23 = .ok (.iload_n 1, 1) := by decide +kernel
theorem dX0_unusedLog_24 : decode cX0_unusedLog 24 = .ok (.ireturn, 1) := by decide +kernel
theorem dX0_unusedLog_25 : decode cX0_unusedLog 25 = .ok (.iinc 1 1, 3) := by decide +kernel
theorem dX0_unusedLog_28 : decode cX0_unusedLog 28 = .ok (.goto (-26), 3) := by decide +kernel
theorem dX0_unusedLog_31 : decode cX0_unusedLog 31 = .ok (.iconst 0, 1) := by decide +kernel
theorem dX0_unusedLog_32 : decode cX0_unusedLog 32 = .ok (.ireturn, 1) := by decide +kernel
theorem dX0_clearLog_0 : decode cX0_clearLog 0 = .ok (.iconst 0, 1) := by decide +kernel
theorem dX0_clearLog_1 : decode cX0_clearLog 1 = .ok (.istore_n 2, 1) := by decide +kernel
theorem dX0_clearLog_2 : decode cX0_clearLog 2 = .ok (.iload_n 2, 1) := by decide +kernel
theorem dX0_clearLog_3 : decode cX0_clearLog 3 = .ok (.bipush 16, 2) := by decide +kernel
theorem dX0_clearLog_5 : decode cX0_clearLog 5 = .ok (.if_icmp .ge 21, 3) := by decide +kernel
theorem dX0_clearLog_8 : decode cX0_clearLog 8 = .ok (.aload_n 0, 1) := by decide +kernel
theorem dX0_clearLog_9 : decode cX0_clearLog 9 = .ok (.getfield 34, 3) := by decide +kernel
theorem dX0_clearLog_12 : decode cX0_clearLog 12 = .ok (.bipush 16, 2) := by decide +kernel
theorem dX0_clearLog_14 : decode cX0_clearLog 14 = .ok (.iload_n 1, 1) := by decide +kernel
theorem dX0_clearLog_15 : decode cX0_clearLog 15 = .ok (.imul, 1) := by decide +kernel
theorem dX0_clearLog_16 : decode cX0_clearLog 16 = .ok (.iload_n 2, 1) := by decide +kernel
theorem dX0_clearLog_17 : decode cX0_clearLog 17 = .ok (.iadd, 1) := by decide +kernel
theorem dX0_clearLog_18 : decode cX0_clearLog 18 = .ok (.iconst 0, 1) := by decide +kernel
theorem dX0_clearLog_19 : decode cX0_clearLog 19 = .ok (.bastore, 1) := by decide +kernel
theorem dX0_clearLog_20 : decode cX0_clearLog 20 = .ok (.iinc 2 1, 3) := by decide +kernel
theorem dX0_clearLog_23 : decode cX0_clearLog 23 = .ok (.goto (-21), 3) := by decide +kernel
theorem dX0_clearLog_26 : decode cX0_clearLog 26 = .ok (.return_, 1) := by decide +kernel
theorem dX0_write_0 : decode cX0_write 0 = .ok (.iload_n 1, 1) := by decide +kernel
theorem dX0_write_1 : decode cX0_write 1 = .ok (.iload_n 2, 1) := by decide +kernel
theorem dX0_write_2 : decode cX0_write 2 = .ok (.invokestatic 66, 3) := by decide +kernel
theorem dX0_write_5 : decode cX0_write 5 = .ok (.ifCond .ne 5, 3) := by decide +kernel
theorem dX0_write_8 : decode cX0_write 8 = .ok (.iconst (-1), 1) := by decide +kernel
theorem dX0_write_9 : decode cX0_write 9 = .ok (.ireturn, 1) := by decide +kernel
theorem dX0_write_10 : decode cX0_write 10 = .ok (.aload_n 0, 1) := by decide +kernel
theorem dX0_write_11 : decode cX0_write 11 = .ok (.iload_n 1, 1) := by decide +kernel
theorem dX0_write_12 : decode cX0_write 12 = .ok (.iload_n 2, 1) := by decide +kernel
theorem dX0_write_13 : decode cX0_write 13 = .ok (.iload_n 3, 1) := by decide +kernel
theorem dX0_write_14 : decode cX0_write 14 = .ok (.iconst (-1), 1) := by decide +kernel
theorem dX0_write_15 : decode cX0_write 15 = .ok (.iconst 0, 1) := by decide +kernel
theorem dX0_write_16 : decode cX0_write 16 = .ok (.invokevirtual 70, 3) := by decide +kernel
theorem dX0_write_19 : decode cX0_write 19 = .ok (.iconst 0, 1) := by decide +kernel
theorem dX0_write_20 : decode cX0_write 20 = .ok (.ireturn, 1) := by decide +kernel
theorem dX0_fits_0 : decode cX0_fits 0 = .ok (.iload_n 0, 1) := by decide +kernel
theorem dX0_fits_1 : decode cX0_fits 1 = .ok (.ifCond .lt 22, 3) := by decide +kernel
theorem dX0_fits_4 : decode cX0_fits 4 = .ok (.iload_n 0, 1) := by decide +kernel
theorem dX0_fits_5 : decode cX0_fits 5 = .ok (.bipush 15, 2) := by decide +kernel
theorem dX0_fits_7 : decode cX0_fits 7 = .ok (.if_icmp .gt 16, 3) := by decide +kernel
theorem dX0_fits_10 : decode cX0_fits 10 = .ok (.iload_n 1, 1) := by decide +kernel
theorem dX0_fits_11 : decode cX0_fits 11 = .ok (.ifCond .lt 12, 3) := by decide +kernel
theorem dX0_fits_14 : decode cX0_fits 14 = .ok (.iload_n 1, 1) := by decide +kernel
theorem dX0_fits_15 : decode cX0_fits 15 = .ok (.iconst 3, 1) := by decide +kernel
theorem dX0_fits_16 : decode cX0_fits 16 = .ok (.if_icmp .gt 7, 3) := by decide +kernel
theorem dX0_fits_19 : decode cX0_fits 19 = .ok (.iconst 1, 1) := by decide +kernel
theorem dX0_fits_20 : decode cX0_fits 20 = .ok (.goto 4, 3) := by decide +kernel
theorem dX0_fits_23 : decode cX0_fits 23 = .ok (.iconst 0, 1) := by decide +kernel
theorem dX0_fits_24 : decode cX0_fits 24 = .ok (.ireturn, 1) := by decide +kernel
theorem dX0_put_0 : decode cX0_put 0 = .ok (.aload_n 0, 1) := by decide +kernel
theorem dX0_put_1 : decode cX0_put 1 = .ok (.iload_n 1, 1) := by decide +kernel
theorem dX0_put_2 : decode cX0_put 2 = .ok (.invokevirtual 85, 3) := by decide +kernel
theorem dX0_put_5 : decode cX0_put 5 = .ok (.istore 6, 2) := by decide +kernel
theorem dX0_put_7 : decode cX0_put 7 = .ok (.aload_n 0, 1) := by decide +kernel
theorem dX0_put_8 : decode cX0_put 8 = .ok (.iload 6, 2) := by decide +kernel
theorem dX0_put_10 : decode cX0_put 10 = .ok (.invokevirtual 88, 3) := by decide +kernel
theorem dX0_put_13 : decode cX0_put 13 = .ok (.aload_n 0, 1) := by decide +kernel
theorem dX0_put_14 : decode cX0_put 14 = .ok (.getfield 47, 3) := by decide +kernel
theorem dX0_put_17 : decode cX0_put 17 = .ok (.iconst 4, 1) := by decide +kernel
theorem dX0_put_18 : decode cX0_put 18 = .ok (.iload 6, 2) := by decide +kernel
theorem dX0_put_20 : decode cX0_put 20 = .ok (.imul, 1) := by decide +kernel
theorem dX0_put_21 : decode cX0_put 21 = .ok (.iload_n 2, 1) := by decide +kernel
theorem dX0_put_22 : decode cX0_put 22 = .ok (.iadd, 1) := by decide +kernel
theorem dX0_put_23 : decode cX0_put 23 = .ok (.iload_n 3, 1) := by decide +kernel
theorem dX0_put_24 : decode cX0_put 24 = .ok (.iastore, 1) := by decide +kernel
theorem dX0_put_25 : decode cX0_put 25 = .ok (.aload_n 0, 1) := by decide +kernel
theorem dX0_put_26 : decode cX0_put 26 = .ok (.getfield 50, 3) := by decide +kernel
theorem dX0_put_29 : decode cX0_put 29 = .ok (.iconst 4, 1) := by decide +kernel
theorem dX0_put_30 : decode cX0_put 30 = .ok (.iload 6, 2) := by decide +kernel
theorem dX0_put_32 : decode cX0_put 32 = .ok (.imul, 1) := by decide +kernel
theorem dX0_put_33 : decode cX0_put 33 = .ok (.iload_n 2, 1) := by decide +kernel
theorem dX0_put_34 : decode cX0_put 34 = .ok (.iadd, 1) := by decide +kernel
theorem dX0_put_35 : decode cX0_put 35 = .ok (.iload 4, 2) := by decide +kernel
theorem dX0_put_37 : decode cX0_put 37 = .ok (.iastore, 1) := by decide +kernel
theorem dX0_put_38 : decode cX0_put 38 = .ok (.aload_n 0, 1) := by decide +kernel
theorem dX0_put_39 : decode cX0_put 39 = .ok (.getfield 53, 3) := by decide +kernel
theorem dX0_put_42 : decode cX0_put 42 = .ok (.iconst 4, 1) := by decide +kernel
theorem dX0_put_43 : decode cX0_put 43 = .ok (.iload 6, 2) := by decide +kernel
theorem dX0_put_45 : decode cX0_put 45 = .ok (.imul, 1) := by decide +kernel
theorem dX0_put_46 : decode cX0_put 46 = .ok (.iload_n 2, 1) := by decide +kernel
theorem dX0_put_47 : decode cX0_put 47 = .ok (.iadd, 1) := by decide +kernel
theorem dX0_put_48 : decode cX0_put 48 = .ok (.iload 5, 2) := by decide +kernel
theorem dX0_put_50 : decode cX0_put 50 = .ok (.iastore, 1) := by decide +kernel
theorem dX0_put_51 : decode cX0_put 51 = .ok (.return_, 1) := by decide +kernel
theorem dX0_frameFor_0 : decode cX0_frameFor 0 = .ok (.iconst 0, 1) := by decide +kernel
theorem dX0_frameFor_1 : decode cX0_frameFor 1 = .ok (.istore_n 2, 1) := by decide +kernel
theorem dX0_frameFor_2 : decode cX0_frameFor 2 = .ok (.iload_n 2, 1) := by decide +kernel
theorem dX0_frameFor_3 : decode cX0_frameFor 3 = .ok (.iconst 5, 1) := by decide +kernel
theorem dX0_frameFor_4 : decode cX0_frameFor 4 = .ok (.if_icmp .ge 21, 3) := by decide +kernel
theorem dX0_frameFor_7 : decode cX0_frameFor 7 = .ok (.aload_n 0, 1) := by decide +kernel
theorem dX0_frameFor_8 : decode cX0_frameFor 8 = .ok (.getfield 38, 3) := by decide +kernel
theorem dX0_frameFor_11 : decode cX0_frameFor 11 = .ok (.iload_n 2, 1) := by decide +kernel
theorem dX0_frameFor_12 : decode cX0_frameFor 12 = .ok (.iaload, 1) := by decide +kernel
theorem dX0_frameFor_13 : decode cX0_frameFor 13 = .ok (.iload_n 1, 1) := by decide +kernel
theorem dX0_frameFor_14 : decode cX0_frameFor 14 = .ok (.if_icmp .ne 5, 3) := by decide +kernel
theorem dX0_frameFor_17 : decode cX0_frameFor 17 = .ok (.iload_n 2, 1) := by decide +kernel
theorem dX0_frameFor_18 : decode cX0_frameFor 18 = .ok (.ireturn, 1) := by decide +kernel
theorem dX0_frameFor_19 : decode cX0_frameFor 19 = .ok (.iinc 2 1, 3) := by decide +kernel
theorem dX0_frameFor_22 : decode cX0_frameFor 22 = .ok (.goto (-20), 3) := by decide +kernel
theorem dX0_frameFor_25 : decode cX0_frameFor 25 = .ok (.aload_n 0, 1) := by decide +kernel
theorem dX0_frameFor_26 : decode cX0_frameFor 26 = .ok (.getfield 111, 3) := by decide +kernel
theorem dX0_frameFor_29 : decode cX0_frameFor 29 = .ok (.istore_n 2, 1) := by decide +kernel
theorem dX0_frameFor_30 : decode cX0_frameFor 30 = .ok (.aload_n 0, 1) := by decide +kernel
theorem dX0_frameFor_31 : decode cX0_frameFor 31 = .ok (.aload_n 0, 1) := by decide +kernel
theorem dX0_frameFor_32 : decode cX0_frameFor 32 = .ok (.getfield 111, 3) := by decide +kernel
theorem dX0_frameFor_35 : decode cX0_frameFor 35 = .ok (.iconst 4, 1) := by decide +kernel
theorem dX0_frameFor_36 : decode cX0_frameFor 36 = .ok (.if_icmp .ne 7, 3) := by decide +kernel
theorem dX0_frameFor_39 : decode cX0_frameFor 39 = .ok (.iconst 0, 1) := by decide +kernel
theorem dX0_frameFor_40 : decode cX0_frameFor 40 = .ok (.goto 9, 3) := by decide +kernel
theorem dX0_frameFor_43 : decode cX0_frameFor 43 = .ok (.aload_n 0, 1) := by decide +kernel
theorem dX0_frameFor_44 : decode cX0_frameFor 44 = .ok (.getfield 111, 3) := by decide +kernel
theorem dX0_frameFor_47 : decode cX0_frameFor 47 = .ok (.iconst 1, 1) := by decide +kernel
theorem dX0_frameFor_48 : decode cX0_frameFor 48 = .ok (.iadd, 1) := by decide +kernel
theorem dX0_frameFor_49 : decode cX0_frameFor 49 = .ok (.putfield 111, 3) := by decide +kernel
theorem dX0_frameFor_52 : decode cX0_frameFor 52 = .ok (.aload_n 0, 1) := by decide +kernel
theorem dX0_frameFor_53 : decode cX0_frameFor 53 = .ok (.iload_n 2, 1) := by decide +kernel
theorem dX0_frameFor_54 : decode cX0_frameFor 54 = .ok (.invokevirtual 114, 3) := by decide +kernel
theorem dX0_frameFor_57 : decode cX0_frameFor 57 = .ok (.aload_n 0, 1) := by decide +kernel
theorem dX0_frameFor_58 : decode cX0_frameFor 58 = .ok (.iload_n 2, 1) := by decide +kernel
theorem dX0_frameFor_59 : decode cX0_frameFor 59 = .ok (.iload_n 1, 1) := by decide +kernel
theorem dX0_frameFor_60 : decode cX0_frameFor 60 = .ok (.invokevirtual 117, 3) := by decide +kernel
theorem dX0_frameFor_63 : decode cX0_frameFor 63 = .ok (.iload_n 2, 1) := by decide +kernel
theorem dX0_frameFor_64 : decode cX0_frameFor 64 = .ok (.ireturn, 1) := by decide +kernel
theorem dX0_evict_0 : decode cX0_evict 0 = .ok (.aload_n 0, 1) := by decide +kernel
theorem dX0_evict_1 : decode cX0_evict 1 = .ok (.getfield 38, 3) := by decide +kernel
theorem dX0_evict_4 : decode cX0_evict 4 = .ok (.iload_n 1, 1) := by decide +kernel
theorem dX0_evict_5 : decode cX0_evict 5 = .ok (.iaload, 1) := by decide +kernel
theorem dX0_evict_6 : decode cX0_evict 6 = .ok (.ifCond .lt 45, 3) := by decide +kernel
theorem dX0_evict_9 : decode cX0_evict 9 = .ok (.aload_n 0, 1) := by decide +kernel
theorem dX0_evict_10 : decode cX0_evict 10 = .ok (.getfield 41, 3) := by decide +kernel
theorem dX0_evict_13 : decode cX0_evict 13 = .ok (.iload_n 1, 1) := by decide +kernel
theorem dX0_evict_14 : decode cX0_evict 14 = .ok (.baload, 1) := by decide +kernel
theorem dX0_evict_15 : decode cX0_evict 15 = .ok (.ifCond .eq 36, 3) := by decide +kernel
theorem dX0_evict_18 : decode cX0_evict 18 = .ok (.aload_n 0, 1) := by decide +kernel
theorem dX0_evict_19 : decode cX0_evict 19 = .ok (.getfield 44, 3) := by decide +kernel
theorem dX0_evict_22 : decode cX0_evict 22 = .ok (.iload_n 1, 1) := by decide +kernel
theorem dX0_evict_23 : decode cX0_evict 23 = .ok (.baload, 1) := by decide +kernel
theorem dX0_evict_24 : decode cX0_evict 24 = .ok (.ifCond .eq 11, 3) := by decide +kernel
theorem dX0_evict_27 : decode cX0_evict 27 = .ok (.aload_n 0, 1) := by decide +kernel
theorem dX0_evict_28 : decode cX0_evict 28 = .ok (.iload_n 1, 1) := by decide +kernel
theorem dX0_evict_29 : decode cX0_evict 29 = .ok (.invokevirtual 105, 3) := by decide +kernel
theorem dX0_evict_32 : decode cX0_evict 32 = .ok (.goto 19, 3) := by decide +kernel
theorem dX0_evict_35 : decode cX0_evict 35 = .ok (.aload_n 0, 1) := by decide +kernel
theorem dX0_evict_36 : decode cX0_evict 36 = .ok (.iload_n 1, 1) := by decide +kernel
theorem dX0_evict_37 : decode cX0_evict 37 = .ok (.aload_n 0, 1) := by decide +kernel
theorem dX0_evict_38 : decode cX0_evict 38 = .ok (.getfield 95, 3) := by decide +kernel
theorem dX0_evict_41 : decode cX0_evict 41 = .ok (.invokevirtual 121, 3) := by decide +kernel
theorem dX0_evict_44 : decode cX0_evict 44 = .ok (.aload_n 0, 1) := by decide +kernel
theorem dX0_evict_45 : decode cX0_evict 45 = .ok (.getfield 41, 3) := by decide +kernel
theorem dX0_evict_48 : decode cX0_evict 48 = .ok (.iload_n 1, 1) := by decide +kernel
theorem dX0_evict_49 : decode cX0_evict 49 = .ok (.iconst 0, 1) := by decide +kernel
theorem dX0_evict_50 : decode cX0_evict 50 = .ok (.bastore, 1) := by decide +kernel
theorem dX0_evict_51 : decode cX0_evict 51 = .ok (.aload_n 0, 1) := by decide +kernel
theorem dX0_evict_52 : decode cX0_evict 52 = .ok (.getfield 38, 3) := by decide +kernel
theorem dX0_evict_55 : decode cX0_evict 55 = .ok (.iload_n 1, 1) := by decide +kernel
theorem dX0_evict_56 : decode cX0_evict 56 = .ok (.iconst (-1), 1) := by decide +kernel
theorem dX0_evict_57 : decode cX0_evict 57 = .ok (.iastore, 1) := by decide +kernel
theorem dX0_evict_58 : decode cX0_evict 58 = .ok (.return_, 1) := by decide +kernel
theorem dX0_saveFrozen_0 : decode cX0_saveFrozen 0 = .ok (.aload_n 0, 1) := by decide +kernel
theorem dX0_saveFrozen_1 : decode cX0_saveFrozen 1 = .ok (.iload_n 1, 1) := by decide +kernel
theorem dX0_saveFrozen_2 : decode cX0_saveFrozen 2 = .ok (.aload_n 0, 1) := by decide +kernel
theorem dX0_saveFrozen_3 : decode cX0_saveFrozen 3 = .ok (.getfield 92, 3) := by decide +kernel
theorem dX0_saveFrozen_6 : decode cX0_saveFrozen 6 = .ok (.invokevirtual 121, 3) := by decide +kernel
theorem dX0_saveFrozen_9 : decode cX0_saveFrozen 9 = .ok (.aload_n 0, 1) := by decide +kernel
theorem dX0_saveFrozen_10 : decode cX0_saveFrozen 10 = .ok (.getfield 44, 3) := by decide +kernel
theorem dX0_saveFrozen_13 : decode cX0_saveFrozen 13 = .ok (.iload_n 1, 1) := by decide +kernel
theorem dX0_saveFrozen_14 : decode cX0_saveFrozen 14 = .ok (.iconst 0, 1) := by decide +kernel
theorem dX0_saveFrozen_15 : decode cX0_saveFrozen 15 = .ok (.bastore, 1) := by decide +kernel
theorem dX0_saveFrozen_16 : decode cX0_saveFrozen 16 = .ok (.aload_n 0, 1) := by decide +kernel
theorem dX0_saveFrozen_17 : decode cX0_saveFrozen 17 = .ok (.getfield 41, 3) := by decide +kernel
theorem dX0_saveFrozen_20 : decode cX0_saveFrozen 20 = .ok (.iload_n 1, 1) := by decide +kernel
theorem dX0_saveFrozen_21 : decode cX0_saveFrozen 21 = .ok (.iconst 0, 1) := by decide +kernel
theorem dX0_saveFrozen_22 : decode cX0_saveFrozen 22 = .ok (.bastore, 1) := by decide +kernel
theorem dX0_saveFrozen_23 : decode cX0_saveFrozen 23 = .ok (.return_, 1) := by decide +kernel
theorem dX0_save_0 : decode cX0_save 0 = .ok (.aload_n 0, 1) := by decide +kernel
theorem dX0_save_1 : decode cX0_save 1 = .ok (.getfield 38, 3) := by decide +kernel
theorem dX0_save_4 : decode cX0_save 4 = .ok (.iload_n 1, 1) := by decide +kernel
theorem dX0_save_5 : decode cX0_save 5 = .ok (.iaload, 1) := by decide +kernel
theorem dX0_save_6 : decode cX0_save 6 = .ok (.istore_n 3, 1) := by decide +kernel
theorem dX0_save_7 : decode cX0_save 7 = .ok (.bipush 16, 2) := by decide +kernel
theorem dX0_save_9 : decode cX0_save 9 = .ok (.iload_n 2, 1) := by decide +kernel
theorem dX0_save_10 : decode cX0_save 10 = .ok (.imul, 1) := by decide +kernel
theorem dX0_save_11 : decode cX0_save 11 = .ok (.iload_n 3, 1) := by decide +kernel
theorem dX0_save_12 : decode cX0_save 12 = .ok (.iadd, 1) := by decide +kernel
theorem dX0_save_13 : decode cX0_save 13 = .ok (.istore 4, 2) := by decide +kernel
theorem dX0_save_15 : decode cX0_save 15 = .ok (.aload_n 0, 1) := by decide +kernel
theorem dX0_save_16 : decode cX0_save 16 = .ok (.getfield 34, 3) := by decide +kernel
theorem dX0_save_19 : decode cX0_save 19 = .ok (.iload 4, 2) := by decide +kernel
theorem dX0_save_21 : decode cX0_save 21 = .ok (.iconst 1, 1) := by decide +kernel
theorem dX0_save_22 : decode cX0_save 22 = .ok (.bastore, 1) := by decide +kernel
theorem dX0_save_23 : decode cX0_save 23 = .ok (.aload_n 0, 1) := by decide +kernel
theorem dX0_save_24 : decode cX0_save 24 = .ok (.getfield 31, 3) := by decide +kernel
theorem dX0_save_27 : decode cX0_save 27 = .ok (.iload 4, 2) := by decide +kernel
theorem dX0_save_29 : decode cX0_save 29 = .ok (.aload_n 0, 1) := by decide +kernel
theorem dX0_save_30 : decode cX0_save 30 = .ok (.getfield 56, 3) := by decide +kernel
theorem dX0_save_33 : decode cX0_save 33 = .ok (.iload_n 1, 1) := by decide +kernel
theorem dX0_save_34 : decode cX0_save 34 = .ok (.iaload, 1) := by decide +kernel
theorem dX0_save_35 : decode cX0_save 35 = .ok (.iastore, 1) := by decide +kernel
theorem dX0_save_36 : decode cX0_save 36 = .ok (.iconst 0, 1) := by decide +kernel
theorem dX0_save_37 : decode cX0_save 37 = .ok (.istore 5, 2) := by decide +kernel
theorem dX0_save_39 : decode cX0_save 39 = .ok (.iload 5, 2) := by decide +kernel
theorem dX0_save_41 : decode cX0_save 41 = .ok (.iconst 4, 1) := by decide +kernel
theorem dX0_save_42 : decode cX0_save 42 = .ok (.if_icmp .ge 78, 3) := by decide +kernel
theorem dX0_save_45 : decode cX0_save 45 = .ok (.aload_n 0, 1) := by decide +kernel
theorem dX0_save_46 : decode cX0_save 46 = .ok (.getfield 22, 3) := by decide +kernel
theorem dX0_save_49 : decode cX0_save 49 = .ok (.iconst 4, 1) := by decide +kernel
theorem dX0_save_50 : decode cX0_save 50 = .ok (.iload 4, 2) := by decide +kernel
theorem dX0_save_52 : decode cX0_save 52 = .ok (.imul, 1) := by decide +kernel
theorem dX0_save_53 : decode cX0_save 53 = .ok (.iload 5, 2) := by decide +kernel
theorem dX0_save_55 : decode cX0_save 55 = .ok (.iadd, 1) := by decide +kernel
theorem dX0_save_56 : decode cX0_save 56 = .ok (.aload_n 0, 1) := by decide +kernel
theorem dX0_save_57 : decode cX0_save 57 = .ok (.getfield 47, 3) := by decide +kernel
theorem dX0_save_60 : decode cX0_save 60 = .ok (.iconst 4, 1) := by decide +kernel
theorem dX0_save_61 : decode cX0_save 61 = .ok (.iload_n 1, 1) := by decide +kernel
theorem dX0_save_62 : decode cX0_save 62 = .ok (.imul, 1) := by decide +kernel
theorem dX0_save_63 : decode cX0_save 63 = .ok (.iload 5, 2) := by decide +kernel
theorem dX0_save_65 : decode cX0_save 65 = .ok (.iadd, 1) := by decide +kernel
theorem dX0_save_66 : decode cX0_save 66 = .ok (.iaload, 1) := by decide +kernel
theorem dX0_save_67 : decode cX0_save 67 = .ok (.iastore, 1) := by decide +kernel
theorem dX0_save_68 : decode cX0_save 68 = .ok (.aload_n 0, 1) := by decide +kernel
theorem dX0_save_69 : decode cX0_save 69 = .ok (.getfield 25, 3) := by decide +kernel
theorem dX0_save_72 : decode cX0_save 72 = .ok (.iconst 4, 1) := by decide +kernel
theorem dX0_save_73 : decode cX0_save 73 = .ok (.iload 4, 2) := by decide +kernel
theorem dX0_save_75 : decode cX0_save 75 = .ok (.imul, 1) := by decide +kernel
theorem dX0_save_76 : decode cX0_save 76 = .ok (.iload 5, 2) := by decide +kernel
theorem dX0_save_78 : decode cX0_save 78 = .ok (.iadd, 1) := by decide +kernel
theorem dX0_save_79 : decode cX0_save 79 = .ok (.aload_n 0, 1) := by decide +kernel
theorem dX0_save_80 : decode cX0_save 80 = .ok (.getfield 50, 3) := by decide +kernel
end
section
set_option maxRecDepth 100000
theorem dX0_save_83 : decode cX0_save 83 = .ok (.iconst 4, 1) := by decide +kernel
theorem dX0_save_84 : decode cX0_save 84 = .ok (.iload_n 1, 1) := by decide +kernel
theorem dX0_save_85 : decode cX0_save 85 = .ok (.imul, 1) := by decide +kernel
theorem dX0_save_86 : decode cX0_save 86 = .ok (.iload 5, 2) := by decide +kernel
theorem dX0_save_88 : decode cX0_save 88 = .ok (.iadd, 1) := by decide +kernel
theorem dX0_save_89 : decode cX0_save 89 = .ok (.iaload, 1) := by decide +kernel
theorem dX0_save_90 : decode cX0_save 90 = .ok (.iastore, 1) := by decide +kernel
theorem dX0_save_91 : decode cX0_save 91 = .ok (.aload_n 0, 1) := by decide +kernel
theorem dX0_save_92 : decode cX0_save 92 = .ok (.getfield 28, 3) := by decide +kernel
theorem dX0_save_95 : decode cX0_save 95 = .ok (.iconst 4, 1) := by decide +kernel
theorem dX0_save_96 : decode cX0_save 96 = .ok (.iload 4, 2) := by decide +kernel
theorem dX0_save_98 : decode cX0_save 98 = .ok (.imul, 1) := by decide +kernel
theorem dX0_save_99 : decode cX0_save 99 = .ok (.iload 5, 2) := by decide +kernel
theorem dX0_save_101 : decode cX0_save 101 = .ok (.iadd, 1) := by decide +kernel
theorem dX0_save_102 : decode cX0_save 102 = .ok (.aload_n 0, 1) := by decide +kernel
theorem dX0_save_103 : decode cX0_save 103 = .ok (.getfield 53, 3) := by decide +kernel
theorem dX0_save_106 : decode cX0_save 106 = .ok (.iconst 4, 1) := by decide +kernel
theorem dX0_save_107 : decode cX0_save 107 = .ok (.iload_n 1, 1) := by decide +kernel
theorem dX0_save_108 : decode cX0_save 108 = .ok (.imul, 1) := by decide +kernel
theorem dX0_save_109 : decode cX0_save 109 = .ok (.iload 5, 2) := by decide +kernel
theorem dX0_save_111 : decode cX0_save 111 = .ok (.iadd, 1) := by decide +kernel
theorem dX0_save_112 : decode cX0_save 112 = .ok (.iaload, 1) := by decide +kernel
theorem dX0_save_113 : decode cX0_save 113 = .ok (.iastore, 1) := by decide +kernel
theorem dX0_save_114 : decode cX0_save 114 = .ok (.iinc 5 1, 3) := by decide +kernel
theorem dX0_save_117 : decode cX0_save 117 = .ok (.goto (-78), 3) := by decide +kernel
theorem dX0_save_120 : decode cX0_save 120 = .ok (.return_, 1) := by decide +kernel
theorem dX0_load_0 : decode cX0_load 0 = .ok (.aload_n 0, 1) := by decide +kernel
theorem dX0_load_1 : decode cX0_load 1 = .ok (.getfield 38, 3) := by decide +kernel
theorem dX0_load_4 : decode cX0_load 4 = .ok (.iload_n 1, 1) := by decide +kernel
theorem dX0_load_5 : decode cX0_load 5 = .ok (.iload_n 2, 1) := by decide +kernel
theorem dX0_load_6 : decode cX0_load 6 = .ok (.iastore, 1) := by decide +kernel
theorem dX0_load_7 : decode cX0_load 7 = .ok (.aload_n 0, 1) := by decide +kernel
theorem dX0_load_8 : decode cX0_load 8 = .ok (.getfield 41, 3) := by decide +kernel
theorem dX0_load_11 : decode cX0_load 11 = .ok (.iload_n 1, 1) := by decide +kernel
theorem dX0_load_12 : decode cX0_load 12 = .ok (.iconst 0, 1) := by decide +kernel
theorem dX0_load_13 : decode cX0_load 13 = .ok (.bastore, 1) := by decide +kernel
theorem dX0_load_14 : decode cX0_load 14 = .ok (.aload_n 0, 1) := by decide +kernel
theorem dX0_load_15 : decode cX0_load 15 = .ok (.getfield 44, 3) := by decide +kernel
theorem dX0_load_18 : decode cX0_load 18 = .ok (.iload_n 1, 1) := by decide +kernel
theorem dX0_load_19 : decode cX0_load 19 = .ok (.iconst 0, 1) := by decide +kernel
theorem dX0_load_20 : decode cX0_load 20 = .ok (.bastore, 1) := by decide +kernel
theorem dX0_load_21 : decode cX0_load 21 = .ok (.aload_n 0, 1) := by decide +kernel
theorem dX0_load_22 : decode cX0_load 22 = .ok (.iload_n 2, 1) := by decide +kernel
theorem dX0_load_23 : decode cX0_load 23 = .ok (.invokevirtual 124, 3) := by decide +kernel
theorem dX0_load_26 : decode cX0_load 26 = .ok (.istore_n 3, 1) := by decide +kernel
theorem dX0_load_27 : decode cX0_load 27 = .ok (.iload_n 3, 1) := by decide +kernel
theorem dX0_load_28 : decode cX0_load 28 = .ok (.ifCond .ge 10, 3) := by decide +kernel
theorem dX0_load_31 : decode cX0_load 31 = .ok (.aload_n 0, 1) := by decide +kernel
theorem dX0_load_32 : decode cX0_load 32 = .ok (.iload_n 1, 1) := by decide +kernel
theorem dX0_load_33 : decode cX0_load 33 = .ok (.iload_n 2, 1) := by decide +kernel
theorem dX0_load_34 : decode cX0_load 34 = .ok (.invokevirtual 127, 3) := by decide +kernel
theorem dX0_load_37 : decode cX0_load 37 = .ok (.return_, 1) := by decide +kernel
theorem dX0_load_38 : decode cX0_load 38 = .ok (.bipush 16, 2) := by decide +kernel
theorem dX0_load_40 : decode cX0_load 40 = .ok (.iload_n 3, 1) := by decide +kernel
theorem dX0_load_41 : decode cX0_load 41 = .ok (.imul, 1) := by decide +kernel
theorem dX0_load_42 : decode cX0_load 42 = .ok (.iload_n 2, 1) := by decide +kernel
theorem dX0_load_43 : decode cX0_load 43 = .ok (.iadd, 1) := by decide +kernel
theorem dX0_load_44 : decode cX0_load 44 = .ok (.istore 4, 2) := by decide +kernel
theorem dX0_load_46 : decode cX0_load 46 = .ok (.aload_n 0, 1) := by decide +kernel
theorem dX0_load_47 : decode cX0_load 47 = .ok (.getfield 56, 3) := by decide +kernel
theorem dX0_load_50 : decode cX0_load 50 = .ok (.iload_n 1, 1) := by decide +kernel
theorem dX0_load_51 : decode cX0_load 51 = .ok (.aload_n 0, 1) := by decide +kernel
theorem dX0_load_52 : decode cX0_load 52 = .ok (.getfield 31, 3) := by decide +kernel
theorem dX0_load_55 : decode cX0_load 55 = .ok (.iload 4, 2) := by decide +kernel
theorem dX0_load_57 : decode cX0_load 57 = .ok (.iaload, 1) := by decide +kernel
theorem dX0_load_58 : decode cX0_load 58 = .ok (.iastore, 1) := by decide +kernel
theorem dX0_load_59 : decode cX0_load 59 = .ok (.iconst 0, 1) := by decide +kernel
theorem dX0_load_60 : decode cX0_load 60 = .ok (.istore 5, 2) := by decide +kernel
theorem dX0_load_62 : decode cX0_load 62 = .ok (.iload 5, 2) := by decide +kernel
theorem dX0_load_64 : decode cX0_load 64 = .ok (.iconst 4, 1) := by decide +kernel
theorem dX0_load_65 : decode cX0_load 65 = .ok (.if_icmp .ge 78, 3) := by decide +kernel
theorem dX0_load_68 : decode cX0_load 68 = .ok (.aload_n 0, 1) := by decide +kernel
theorem dX0_load_69 : decode cX0_load 69 = .ok (.getfield 47, 3) := by decide +kernel
theorem dX0_load_72 : decode cX0_load 72 = .ok (.iconst 4, 1) := by decide +kernel
theorem dX0_load_73 : decode cX0_load 73 = .ok (.iload_n 1, 1) := by decide +kernel
theorem dX0_load_74 : decode cX0_load 74 = .ok (.imul, 1) := by decide +kernel
theorem dX0_load_75 : decode cX0_load 75 = .ok (.iload 5, 2) := by decide +kernel
theorem dX0_load_77 : decode cX0_load 77 = .ok (.iadd, 1) := by decide +kernel
theorem dX0_load_78 : decode cX0_load 78 = .ok (.aload_n 0, 1) := by decide +kernel
theorem dX0_load_79 : decode cX0_load 79 = .ok (.getfield 22, 3) := by decide +kernel
theorem dX0_load_82 : decode cX0_load 82 = .ok (.iconst 4, 1) := by decide +kernel
theorem dX0_load_83 : decode cX0_load 83 = .ok (.iload 4, 2) := by decide +kernel
theorem dX0_load_85 : decode cX0_load 85 = .ok (.imul, 1) := by decide +kernel
theorem dX0_load_86 : decode cX0_load 86 = .ok (.iload 5, 2) := by decide +kernel
theorem dX0_load_88 : decode cX0_load 88 = .ok (.iadd, 1) := by decide +kernel
theorem dX0_load_89 : decode cX0_load 89 = .ok (.iaload, 1) := by decide +kernel
theorem dX0_load_90 : decode cX0_load 90 = .ok (.iastore, 1) := by decide +kernel
theorem dX0_load_91 : decode cX0_load 91 = .ok (.aload_n 0, 1) := by decide +kernel
theorem dX0_load_92 : decode cX0_load 92 = .ok (.getfield 50, 3) := by decide +kernel
theorem dX0_load_95 : decode cX0_load 95 = .ok (.iconst 4, 1) := by decide +kernel
theorem dX0_load_96 : decode cX0_load 96 = .ok (.iload_n 1, 1) := by decide +kernel
theorem dX0_load_97 : decode cX0_load 97 = .ok (.imul, 1) := by decide +kernel
theorem dX0_load_98 : decode cX0_load 98 = .ok (.iload 5, 2) := by decide +kernel
theorem dX0_load_100 : decode cX0_load 100 = .ok (.iadd, 1) := by decide +kernel
theorem dX0_load_101 : decode cX0_load 101 = .ok (.aload_n 0, 1) := by decide +kernel
theorem dX0_load_102 : decode cX0_load 102 = .ok (.getfield 25, 3) := by decide +kernel
theorem dX0_load_105 : decode cX0_load 105 = .ok (.iconst 4, 1) := by decide +kernel
theorem dX0_load_106 : decode cX0_load 106 = .ok (.iload 4, 2) := by decide +kernel
theorem dX0_load_108 : decode cX0_load 108 = .ok (.imul, 1) := by decide +kernel
theorem dX0_load_109 : decode cX0_load 109 = .ok (.iload 5, 2) := by decide +kernel
theorem dX0_load_111 : decode cX0_load 111 = .ok (.iadd, 1) := by decide +kernel
theorem dX0_load_112 : decode cX0_load 112 = .ok (.iaload, 1) := by decide +kernel
theorem dX0_load_113 : decode cX0_load 113 = .ok (.iastore, 1) := by decide +kernel
theorem dX0_load_114 : decode cX0_load 114 = .ok (.aload_n 0, 1) := by decide +kernel
theorem dX0_load_115 : decode cX0_load 115 = .ok (.getfield 53, 3) := by decide +kernel
theorem dX0_load_118 : decode cX0_load 118 = .ok (.iconst 4, 1) := by decide +kernel
theorem dX0_load_119 : decode cX0_load 119 = .ok (.iload_n 1, 1) := by decide +kernel
theorem dX0_load_120 : decode cX0_load 120 = .ok (.imul, 1) := by decide +kernel
theorem dX0_load_121 : decode cX0_load 121 = .ok (.iload 5, 2) := by decide +kernel
theorem dX0_load_123 : decode cX0_load 123 = .ok (.iadd, 1) := by decide +kernel
theorem dX0_load_124 : decode cX0_load 124 = .ok (.aload_n 0, 1) := by decide +kernel
theorem dX0_load_125 : decode cX0_load 125 = .ok (.getfield 28, 3) := by decide +kernel
theorem dX0_load_128 : decode cX0_load 128 = .ok (.iconst 4, 1) := by decide +kernel
theorem dX0_load_129 : decode cX0_load 129 = .ok (.iload 4, 2) := by decide +kernel
theorem dX0_load_131 : decode cX0_load 131 = .ok (.imul, 1) := by decide +kernel
theorem dX0_load_132 : decode cX0_load 132 = .ok (.iload 5, 2) := by decide +kernel
theorem dX0_load_134 : decode cX0_load 134 = .ok (.iadd, 1) := by decide +kernel
theorem dX0_load_135 : decode cX0_load 135 = .ok (.iaload, 1) := by decide +kernel
theorem dX0_load_136 : decode cX0_load 136 = .ok (.iastore, 1) := by decide +kernel
theorem dX0_load_137 : decode cX0_load 137 = .ok (.iinc 5 1, 3) := by decide +kernel
theorem dX0_load_140 : decode cX0_load 140 = .ok (.goto (-78), 3) := by decide +kernel
theorem dX0_load_143 : decode cX0_load 143 = .ok (.return_, 1) := by decide +kernel
theorem dX0_newestLog_0 : decode cX0_newestLog 0 = .ok (.aload_n 0, 1) := by decide +kernel
theorem dX0_newestLog_1 : decode cX0_newestLog 1 = .ok (.getfield 34, 3) := by decide +kernel
theorem dX0_newestLog_4 : decode cX0_newestLog 4 = .ok (.bipush 16, 2) := by decide +kernel
theorem dX0_newestLog_6 : decode cX0_newestLog 6 = .ok (.aload_n 0, 1) := by decide +kernel
theorem dX0_newestLog_7 : decode cX0_newestLog 7 = .ok (.getfield 95, 3) := by decide +kernel
theorem dX0_newestLog_10 : decode cX0_newestLog 10 = .ok (.imul, 1) := by decide +kernel
theorem dX0_newestLog_11 : decode cX0_newestLog 11 = .ok (.iload_n 1, 1) := by decide +kernel
theorem dX0_newestLog_12 : decode cX0_newestLog 12 = .ok (.iadd, 1) := by decide +kernel
theorem dX0_newestLog_13 : decode cX0_newestLog 13 = .ok (.baload, 1) := by decide +kernel
theorem dX0_newestLog_14 : decode cX0_newestLog 14 = .ok (.ifCond .eq 8, 3) := by decide +kernel
theorem dX0_newestLog_17 : decode cX0_newestLog 17 = .ok (.aload_n 0, 1) := by decide +kernel
theorem dX0_newestLog_18 : decode cX0_newestLog 18 = .ok (.getfield 95, 3) := by decide +kernel
theorem dX0_newestLog_21 : decode cX0_newestLog 21 = .ok (.ireturn, 1) := by decide +kernel
theorem dX0_newestLog_22 : decode cX0_newestLog 22 = .ok (.aload_n 0, 1) := by decide +kernel
theorem dX0_newestLog_23 : decode cX0_newestLog 23 = .ok (.getfield 92, 3) := by decide +kernel
theorem dX0_newestLog_26 : decode cX0_newestLog 26 = .ok (.ifCond .lt 25, 3) := by decide +kernel
theorem dX0_newestLog_29 : decode cX0_newestLog 29 = .ok (.aload_n 0, 1) := by decide +kernel
theorem dX0_newestLog_30 : decode cX0_newestLog 30 = .ok (.getfield 34, 3) := by decide +kernel
theorem dX0_newestLog_33 : decode cX0_newestLog 33 = .ok (.bipush 16, 2) := by decide +kernel
theorem dX0_newestLog_35 : decode cX0_newestLog 35 = .ok (.aload_n 0, 1) := by decide +kernel
theorem dX0_newestLog_36 : decode cX0_newestLog 36 = .ok (.getfield 92, 3) := by decide +kernel
theorem dX0_newestLog_39 : decode cX0_newestLog 39 = .ok (.imul, 1) := by decide +kernel
theorem dX0_newestLog_40 : decode cX0_newestLog 40 = .ok (.iload_n 1, 1) := by decide +kernel
theorem dX0_newestLog_41 : decode cX0_newestLog 41 = .ok (.iadd, 1) := by decide +kernel
theorem dX0_newestLog_42 : decode cX0_newestLog 42 = .ok (.baload, 1) := by decide +kernel
theorem dX0_newestLog_43 : decode cX0_newestLog 43 = .ok (.ifCond .eq 8, 3) := by decide +kernel
theorem dX0_newestLog_46 : decode cX0_newestLog 46 = .ok (.aload_n 0, 1) := by decide +kernel
theorem dX0_newestLog_47 : decode cX0_newestLog 47 = .ok (.getfield 92, 3) := by decide +kernel
theorem dX0_newestLog_50 : decode cX0_newestLog 50 = .ok (.ireturn, 1) := by decide +kernel
theorem dX0_newestLog_51 : decode cX0_newestLog 51 = .ok (.aload_n 0, 1) := by decide +kernel
theorem dX0_newestLog_52 : decode cX0_newestLog 52 = .ok (.getfield 59, 3) := by decide +kernel
theorem dX0_newestLog_55 : decode cX0_newestLog 55 = .ok (.ifCond .lt 27, 3) := by decide +kernel
theorem dX0_newestLog_58 : decode cX0_newestLog 58 = .ok (.aload_n 0, 1) := by decide +kernel
theorem dX0_newestLog_59 : decode cX0_newestLog 59 = .ok (.getfield 34, 3) := by decide +kernel
theorem dX0_newestLog_62 : decode cX0_newestLog 62 = .ok (.bipush 16, 2) := by decide +kernel
theorem dX0_newestLog_64 : decode cX0_newestLog 64 = .ok (.aload_n 0, 1) := by decide +kernel
theorem dX0_newestLog_65 : decode cX0_newestLog 65 = .ok (.getfield 59, 3) := by decide +kernel
theorem dX0_newestLog_68 : decode cX0_newestLog 68 = .ok (.imul, 1) := by decide +kernel
theorem dX0_newestLog_69 : decode cX0_newestLog 69 = .ok (.iload_n 1, 1) := by decide +kernel
theorem dX0_newestLog_70 : decode cX0_newestLog 70 = .ok (.iadd, 1) := by decide +kernel
theorem dX0_newestLog_71 : decode cX0_newestLog 71 = .ok (.baload, 1) := by decide +kernel
theorem dX0_newestLog_72 : decode cX0_newestLog 72 = .ok (.ifCond .eq 10, 3) := by decide +kernel
theorem dX0_newestLog_75 : decode cX0_newestLog 75 = .ok (.aload_n 0, 1) := by decide +kernel
theorem dX0_newestLog_76 : decode cX0_newestLog 76 = .ok (.getfield 59, 3) := by decide +kernel
theorem dX0_newestLog_79 : decode cX0_newestLog 79 = .ok (.goto 4, 3) := by decide +kernel
theorem dX0_newestLog_82 : decode cX0_newestLog 82 = .ok (.iconst (-1), 1) := by decide +kernel
theorem dX0_newestLog_83 : decode cX0_newestLog 83 = .ok (.ireturn, 1) := by decide +kernel
theorem dX0_loadHome_0 : decode cX0_loadHome 0 = .ok (.aload_n 0, 1) := by decide +kernel
theorem dX0_loadHome_1 : decode cX0_loadHome 1 = .ok (.getfield 56, 3) := by decide +kernel
theorem dX0_loadHome_4 : decode cX0_loadHome 4 = .ok (.iload_n 1, 1) := by decide +kernel
theorem dX0_loadHome_5 : decode cX0_loadHome 5 = .ok (.aload_n 0, 1) := by decide +kernel
theorem dX0_loadHome_6 : decode cX0_loadHome 6 = .ok (.getfield 19, 3) := by decide +kernel
theorem dX0_loadHome_9 : decode cX0_loadHome 9 = .ok (.iload_n 2, 1) := by decide +kernel
theorem dX0_loadHome_10 : decode cX0_loadHome 10 = .ok (.iaload, 1) := by decide +kernel
theorem dX0_loadHome_11 : decode cX0_loadHome 11 = .ok (.iastore, 1) := by decide +kernel
theorem dX0_loadHome_12 : decode cX0_loadHome 12 = .ok (.iconst 0, 1) := by decide +kernel
theorem dX0_loadHome_13 : decode cX0_loadHome 13 = .ok (.istore_n 3, 1) := by decide +kernel
theorem dX0_loadHome_14 : decode cX0_loadHome 14 = .ok (.iload_n 3, 1) := by decide +kernel
theorem dX0_loadHome_15 : decode cX0_loadHome 15 = .ok (.iconst 4, 1) := by decide +kernel
theorem dX0_loadHome_16 : decode cX0_loadHome 16 = .ok (.if_icmp .ge 69, 3) := by decide +kernel
theorem dX0_loadHome_19 : decode cX0_loadHome 19 = .ok (.aload_n 0, 1) := by decide +kernel
theorem dX0_loadHome_20 : decode cX0_loadHome 20 = .ok (.getfield 47, 3) := by decide +kernel
theorem dX0_loadHome_23 : decode cX0_loadHome 23 = .ok (.iconst 4, 1) := by decide +kernel
theorem dX0_loadHome_24 : decode cX0_loadHome 24 = .ok (.iload_n 1, 1) := by decide +kernel
theorem dX0_loadHome_25 : decode cX0_loadHome 25 = .ok (.imul, 1) := by decide +kernel
theorem dX0_loadHome_26 : decode cX0_loadHome 26 = .ok (.iload_n 3, 1) := by decide +kernel
theorem dX0_loadHome_27 : decode cX0_loadHome 27 = .ok (.iadd, 1) := by decide +kernel
theorem dX0_loadHome_28 : decode cX0_loadHome 28 = .ok (.aload_n 0, 1) := by decide +kernel
theorem dX0_loadHome_29 : decode cX0_loadHome 29 = .ok (.getfield 7, 3) := by decide +kernel
theorem dX0_loadHome_32 : decode cX0_loadHome 32 = .ok (.iconst 4, 1) := by decide +kernel
theorem dX0_loadHome_33 : decode cX0_loadHome 33 = .ok (.iload_n 2, 1) := by decide +kernel
theorem dX0_loadHome_34 : decode cX0_loadHome 34 = .ok (.imul, 1) := by decide +kernel
theorem dX0_loadHome_35 : decode cX0_loadHome 35 = .ok (.iload_n 3, 1) := by decide +kernel
theorem dX0_loadHome_36 : decode cX0_loadHome 36 = .ok (.iadd, 1) := by decide +kernel
theorem dX0_loadHome_37 : decode cX0_loadHome 37 = .ok (.iaload, 1) := by decide +kernel
theorem dX0_loadHome_38 : decode cX0_loadHome 38 = .ok (.iastore, 1) := by decide +kernel
theorem dX0_loadHome_39 : decode cX0_loadHome 39 = .ok (.aload_n 0, 1) := by decide +kernel
theorem dX0_loadHome_40 : decode cX0_loadHome 40 = .ok (.getfield 50, 3) := by decide +kernel
theorem dX0_loadHome_43 : decode cX0_loadHome 43 = .ok (.iconst 4, 1) := by decide +kernel
theorem dX0_loadHome_44 : decode cX0_loadHome 44 = .ok (.iload_n 1, 1) := by decide +kernel
theorem dX0_loadHome_45 : decode cX0_loadHome 45 = .ok (.imul, 1) := by decide +kernel
theorem dX0_loadHome_46 : decode cX0_loadHome 46 = .ok (.iload_n 3, 1) := by decide +kernel
theorem dX0_loadHome_47 : decode cX0_loadHome 47 = .ok (.iadd, 1) := by decide +kernel
theorem dX0_loadHome_48 : decode cX0_loadHome 48 = .ok (.aload_n 0, 1) := by decide +kernel
theorem dX0_loadHome_49 : decode cX0_loadHome 49 = .ok (.getfield 13, 3) := by decide +kernel
theorem dX0_loadHome_52 : decode cX0_loadHome 52 = .ok (.iconst 4, 1) := by decide +kernel
theorem dX0_loadHome_53 : decode cX0_loadHome 53 = .ok (.iload_n 2, 1) := by decide +kernel
theorem dX0_loadHome_54 : decode cX0_loadHome 54 = .ok (.imul, 1) := by decide +kernel
theorem dX0_loadHome_55 : decode cX0_loadHome 55 = .ok (.iload_n 3, 1) := by decide +kernel
theorem dX0_loadHome_56 : decode cX0_loadHome 56 = .ok (.iadd, 1) := by decide +kernel
theorem dX0_loadHome_57 : decode cX0_loadHome 57 = .ok (.iaload, 1) := by decide +kernel
theorem dX0_loadHome_58 : decode cX0_loadHome 58 = .ok (.iastore, 1) := by decide +kernel
theorem dX0_loadHome_59 : decode cX0_loadHome 59 = .ok (.aload_n 0, 1) := by decide +kernel
theorem dX0_loadHome_60 : decode cX0_loadHome 60 = .ok (.getfield 53, 3) := by decide +kernel
theorem dX0_loadHome_63 : decode cX0_loadHome 63 = .ok (.iconst 4, 1) := by decide +kernel
theorem dX0_loadHome_64 : decode cX0_loadHome 64 = .ok (.iload_n 1, 1) := by decide +kernel
theorem dX0_loadHome_65 : decode cX0_loadHome 65 = .ok (.imul, 1) := by decide +kernel
theorem dX0_loadHome_66 : decode cX0_loadHome 66 = .ok (.iload_n 3, 1) := by decide +kernel
theorem dX0_loadHome_67 : decode cX0_loadHome 67 = .ok (.iadd, 1) := by decide +kernel
theorem dX0_loadHome_68 : decode cX0_loadHome 68 = .ok (.aload_n 0, 1) := by decide +kernel
theorem dX0_loadHome_69 : decode cX0_loadHome 69 = .ok (.getfield 16, 3) := by decide +kernel
theorem dX0_loadHome_72 : decode cX0_loadHome 72 = .ok (.iconst 4, 1) := by decide +kernel
theorem dX0_loadHome_73 : decode cX0_loadHome 73 = .ok (.iload_n 2, 1) := by decide +kernel
theorem dX0_loadHome_74 : decode cX0_loadHome 74 = .ok (.imul, 1) := by decide +kernel
theorem dX0_loadHome_75 : decode cX0_loadHome 75 = .ok (.iload_n 3, 1) := by decide +kernel
theorem dX0_loadHome_76 : decode cX0_loadHome 76 = .ok (.iadd, 1) := by decide +kernel
theorem dX0_loadHome_77 : decode cX0_loadHome 77 = .ok (.iaload, 1) := by decide +kernel
theorem dX0_loadHome_78 : decode cX0_loadHome 78 = .ok (.iastore, 1) := by decide +kernel
theorem dX0_loadHome_79 : decode cX0_loadHome 79 = .ok (.iinc 3 1, 3) := by decide +kernel
theorem dX0_loadHome_82 : decode cX0_loadHome 82 = .ok (.goto (-68), 3) := by decide +kernel
theorem dX0_loadHome_85 : decode cX0_loadHome 85 = .ok (.return_, 1) := by decide +kernel
theorem dX0_makeWritable_0 : decode cX0_makeWritable 0 = .ok (.aload_n 0, 1) := by decide +kernel
theorem dX0_makeWritable_1 : decode cX0_makeWritable 1 = .ok (.getfield 44, 3) := by decide +kernel
theorem dX0_makeWritable_4 : decode cX0_makeWritable 4 = .ok (.iload_n 1, 1) := by decide +kernel
theorem dX0_makeWritable_5 : decode cX0_makeWritable 5 = .ok (.baload, 1) := by decide +kernel
theorem dX0_makeWritable_6 : decode cX0_makeWritable 6 = .ok (.ifCond .eq 8, 3) := by decide +kernel
theorem dX0_makeWritable_9 : decode cX0_makeWritable 9 = .ok (.aload_n 0, 1) := by decide +kernel
theorem dX0_makeWritable_10 : decode cX0_makeWritable 10 = .ok (.iload_n 1, 1) := by decide +kernel
theorem dX0_makeWritable_11 : decode cX0_makeWritable 11 = .ok (.invokevirtual 105, 3) := by decide +kernel
theorem dX0_makeWritable_14 : decode cX0_makeWritable 14 = .ok (.aload_n 0, 1) := by decide +kernel
theorem dX0_makeWritable_15 : decode cX0_makeWritable 15 = .ok (.getfield 41, 3) := by decide +kernel
theorem dX0_makeWritable_18 : decode cX0_makeWritable 18 = .ok (.iload_n 1, 1) := by decide +kernel
theorem dX0_makeWritable_19 : decode cX0_makeWritable 19 = .ok (.iconst 1, 1) := by decide +kernel
theorem dX0_makeWritable_20 : decode cX0_makeWritable 20 = .ok (.bastore, 1) := by decide +kernel
theorem dX0_makeWritable_21 : decode cX0_makeWritable 21 = .ok (.return_, 1) := by decide +kernel
theorem dX0_writeKey_0 : decode cX0_writeKey 0 = .ok (.iload_n 1, 1) := by decide +kernel
theorem dX0_writeKey_1 : decode cX0_writeKey 1 = .ok (.iload_n 2, 1) := by decide +kernel
theorem dX0_writeKey_2 : decode cX0_writeKey 2 = .ok (.invokestatic 66, 3) := by decide +kernel
theorem dX0_writeKey_5 : decode cX0_writeKey 5 = .ok (.ifCond .eq 13, 3) := by decide +kernel
theorem dX0_writeKey_8 : decode cX0_writeKey 8 = .ok (.iload_n 3, 1) := by decide +kernel
theorem dX0_writeKey_9 : decode cX0_writeKey 9 = .ok (.ifCond .lt 9, 3) := by decide +kernel
theorem dX0_writeKey_12 : decode cX0_writeKey 12 = .ok (.iload_n 3, 1) := by decide +kernel
theorem dX0_writeKey_13 : decode cX0_writeKey 13 = .ok (.bipush 15, 2) := by decide +kernel
theorem dX0_writeKey_15 : decode cX0_writeKey 15 = .ok (.if_icmp .le 5, 3) := by decide +kernel
theorem dX0_writeKey_18 : decode cX0_writeKey 18 = .ok (.iconst (-1), 1) := by decide +kernel
theorem dX0_writeKey_19 : decode cX0_writeKey 19 = .ok (.ireturn, 1) := by decide +kernel
theorem dX0_writeKey_20 : decode cX0_writeKey 20 = .ok (.aload_n 0, 1) := by decide +kernel
theorem dX0_writeKey_21 : decode cX0_writeKey 21 = .ok (.iload_n 3, 1) := by decide +kernel
theorem dX0_writeKey_22 : decode cX0_writeKey 22 = .ok (.invokevirtual 74, 3) := by decide +kernel
theorem dX0_writeKey_25 : decode cX0_writeKey 25 = .ok (.istore 4, 2) := by decide +kernel
theorem dX0_writeKey_27 : decode cX0_writeKey 27 = .ok (.aload_n 0, 1) := by decide +kernel
theorem dX0_writeKey_28 : decode cX0_writeKey 28 = .ok (.iload_n 1, 1) := by decide +kernel
theorem dX0_writeKey_29 : decode cX0_writeKey 29 = .ok (.iload_n 2, 1) := by decide +kernel
theorem dX0_writeKey_30 : decode cX0_writeKey 30 = .ok (.iconst 0, 1) := by decide +kernel
theorem dX0_writeKey_31 : decode cX0_writeKey 31 = .ok (.iload_n 3, 1) := by decide +kernel
theorem dX0_writeKey_32 : decode cX0_writeKey 32 = .ok (.iload 4, 2) := by decide +kernel
theorem dX0_writeKey_34 : decode cX0_writeKey 34 = .ok (.invokevirtual 70, 3) := by decide +kernel
theorem dX0_writeKey_37 : decode cX0_writeKey 37 = .ok (.iconst 0, 1) := by decide +kernel
theorem dX0_writeKey_38 : decode cX0_writeKey 38 = .ok (.ireturn, 1) := by decide +kernel
theorem dX0_versionOf_0 : decode cX0_versionOf 0 = .ok (.aload_n 0, 1) := by decide +kernel
theorem dX0_versionOf_1 : decode cX0_versionOf 1 = .ok (.iload_n 1, 1) := by decide +kernel
theorem dX0_versionOf_2 : decode cX0_versionOf 2 = .ok (.invokevirtual 85, 3) := by decide +kernel
theorem dX0_versionOf_5 : decode cX0_versionOf 5 = .ok (.istore_n 2, 1) := by decide +kernel
theorem dX0_versionOf_6 : decode cX0_versionOf 6 = .ok (.aload_n 0, 1) := by decide +kernel
theorem dX0_versionOf_7 : decode cX0_versionOf 7 = .ok (.getfield 56, 3) := by decide +kernel
theorem dX0_versionOf_10 : decode cX0_versionOf 10 = .ok (.iload_n 2, 1) := by decide +kernel
theorem dX0_versionOf_11 : decode cX0_versionOf 11 = .ok (.iaload, 1) := by decide +kernel
theorem dX0_versionOf_12 : decode cX0_versionOf 12 = .ok (.ireturn, 1) := by decide +kernel
theorem dX0_copy_0 : decode cX0_copy 0 = .ok (.iload_n 1, 1) := by decide +kernel
theorem dX0_copy_1 : decode cX0_copy 1 = .ok (.iload_n 2, 1) := by decide +kernel
theorem dX0_copy_2 : decode cX0_copy 2 = .ok (.invokestatic 66, 3) := by decide +kernel
theorem dX0_copy_5 : decode cX0_copy 5 = .ok (.ifCond .eq 12, 3) := by decide +kernel
theorem dX0_copy_8 : decode cX0_copy 8 = .ok (.iload_n 3, 1) := by decide +kernel
theorem dX0_copy_9 : decode cX0_copy 9 = .ok (.iload 4, 2) := by decide +kernel
theorem dX0_copy_11 : decode cX0_copy 11 = .ok (.invokestatic 66, 3) := by decide +kernel
theorem dX0_copy_14 : decode cX0_copy 14 = .ok (.ifCond .ne 5, 3) := by decide +kernel
theorem dX0_copy_17 : decode cX0_copy 17 = .ok (.iconst (-1), 1) := by decide +kernel
theorem dX0_copy_18 : decode cX0_copy 18 = .ok (.ireturn, 1) := by decide +kernel
theorem dX0_copy_19 : decode cX0_copy 19 = .ok (.aload_n 0, 1) := by decide +kernel
theorem dX0_copy_20 : decode cX0_copy 20 = .ok (.iload_n 1, 1) := by decide +kernel
theorem dX0_copy_21 : decode cX0_copy 21 = .ok (.iload_n 2, 1) := by decide +kernel
theorem dX0_copy_22 : decode cX0_copy 22 = .ok (.invokevirtual 78, 3) := by decide +kernel
theorem dX0_copy_25 : decode cX0_copy 25 = .ok (.istore 5, 2) := by decide +kernel
theorem dX0_copy_27 : decode cX0_copy 27 = .ok (.aload_n 0, 1) := by decide +kernel
theorem dX0_copy_28 : decode cX0_copy 28 = .ok (.iload_n 1, 1) := by decide +kernel
theorem dX0_copy_29 : decode cX0_copy 29 = .ok (.iload_n 2, 1) := by decide +kernel
theorem dX0_copy_30 : decode cX0_copy 30 = .ok (.invokevirtual 82, 3) := by decide +kernel
theorem dX0_copy_33 : decode cX0_copy 33 = .ok (.istore 6, 2) := by decide +kernel
theorem dX0_copy_35 : decode cX0_copy 35 = .ok (.iload 5, 2) := by decide +kernel
theorem dX0_copy_37 : decode cX0_copy 37 = .ok (.ifCond .ge 7, 3) := by decide +kernel
theorem dX0_copy_40 : decode cX0_copy 40 = .ok (.iconst 0, 1) := by decide +kernel
theorem dX0_copy_41 : decode cX0_copy 41 = .ok (.goto 9, 3) := by decide +kernel
theorem dX0_copy_44 : decode cX0_copy 44 = .ok (.aload_n 0, 1) := by decide +kernel
theorem dX0_copy_45 : decode cX0_copy 45 = .ok (.iload 5, 2) := by decide +kernel
theorem dX0_copy_47 : decode cX0_copy 47 = .ok (.invokevirtual 74, 3) := by decide +kernel
theorem dX0_copy_50 : decode cX0_copy 50 = .ok (.istore 7, 2) := by decide +kernel
theorem dX0_copy_52 : decode cX0_copy 52 = .ok (.aload_n 0, 1) := by decide +kernel
theorem dX0_copy_53 : decode cX0_copy 53 = .ok (.iload_n 3, 1) := by decide +kernel
theorem dX0_copy_54 : decode cX0_copy 54 = .ok (.iload 4, 2) := by decide +kernel
theorem dX0_copy_56 : decode cX0_copy 56 = .ok (.iload 6, 2) := by decide +kernel
theorem dX0_copy_58 : decode cX0_copy 58 = .ok (.iload 5, 2) := by decide +kernel
theorem dX0_copy_60 : decode cX0_copy 60 = .ok (.iload 7, 2) := by decide +kernel
theorem dX0_copy_62 : decode cX0_copy 62 = .ok (.invokevirtual 70, 3) := by decide +kernel
theorem dX0_copy_65 : decode cX0_copy 65 = .ok (.iconst 0, 1) := by decide +kernel
theorem dX0_copy_66 : decode cX0_copy 66 = .ok (.ireturn, 1) := by decide +kernel
theorem dX0_liveKey_0 : decode cX0_liveKey 0 = .ok (.aload_n 0, 1) := by decide +kernel
theorem dX0_liveKey_1 : decode cX0_liveKey 1 = .ok (.iload_n 1, 1) := by decide +kernel
theorem dX0_liveKey_2 : decode cX0_liveKey 2 = .ok (.invokevirtual 85, 3) := by decide +kernel
theorem dX0_liveKey_5 : decode cX0_liveKey 5 = .ok (.istore_n 3, 1) := by decide +kernel
theorem dX0_liveKey_6 : decode cX0_liveKey 6 = .ok (.aload_n 0, 1) := by decide +kernel
theorem dX0_liveKey_7 : decode cX0_liveKey 7 = .ok (.getfield 50, 3) := by decide +kernel
theorem dX0_liveKey_10 : decode cX0_liveKey 10 = .ok (.iconst 4, 1) := by decide +kernel
theorem dX0_liveKey_11 : decode cX0_liveKey 11 = .ok (.iload_n 3, 1) := by decide +kernel
theorem dX0_liveKey_12 : decode cX0_liveKey 12 = .ok (.imul, 1) := by decide +kernel
theorem dX0_liveKey_13 : decode cX0_liveKey 13 = .ok (.iload_n 2, 1) := by decide +kernel
theorem dX0_liveKey_14 : decode cX0_liveKey 14 = .ok (.iadd, 1) := by decide +kernel
theorem dX0_liveKey_15 : decode cX0_liveKey 15 = .ok (.iaload, 1) := by decide +kernel
theorem dX0_liveKey_16 : decode cX0_liveKey 16 = .ok (.istore 4, 2) := by decide +kernel
theorem dX0_liveKey_18 : decode cX0_liveKey 18 = .ok (.aload_n 0, 1) := by decide +kernel
theorem dX0_liveKey_19 : decode cX0_liveKey 19 = .ok (.getfield 53, 3) := by decide +kernel
theorem dX0_liveKey_22 : decode cX0_liveKey 22 = .ok (.iconst 4, 1) := by decide +kernel
theorem dX0_liveKey_23 : decode cX0_liveKey 23 = .ok (.iload_n 3, 1) := by decide +kernel
theorem dX0_liveKey_24 : decode cX0_liveKey 24 = .ok (.imul, 1) := by decide +kernel
theorem dX0_liveKey_25 : decode cX0_liveKey 25 = .ok (.iload_n 2, 1) := by decide +kernel
theorem dX0_liveKey_26 : decode cX0_liveKey 26 = .ok (.iadd, 1) := by decide +kernel
theorem dX0_liveKey_27 : decode cX0_liveKey 27 = .ok (.iaload, 1) := by decide +kernel
theorem dX0_liveKey_28 : decode cX0_liveKey 28 = .ok (.istore 5, 2) := by decide +kernel
theorem dX0_liveKey_30 : decode cX0_liveKey 30 = .ok (.iload 4, 2) := by decide +kernel
theorem dX0_liveKey_32 : decode cX0_liveKey 32 = .ok (.ifCond .ge 5, 3) := by decide +kernel
theorem dX0_liveKey_35 : decode cX0_liveKey 35 = .ok (.iconst (-1), 1) := by decide +kernel
theorem dX0_liveKey_36 : decode cX0_liveKey 36 = .ok (.ireturn, 1) := by decide +kernel
theorem dX0_liveKey_37 : decode cX0_liveKey 37 = .ok (.aload_n 0, 1) := by decide +kernel
theorem dX0_liveKey_38 : decode cX0_liveKey 38 = .ok (.iload 4, 2) := by decide +kernel
theorem dX0_liveKey_40 : decode cX0_liveKey 40 = .ok (.invokevirtual 74, 3) := by decide +kernel
theorem dX0_liveKey_43 : decode cX0_liveKey 43 = .ok (.istore 6, 2) := by decide +kernel
theorem dX0_liveKey_45 : decode cX0_liveKey 45 = .ok (.iload 6, 2) := by decide +kernel
theorem dX0_liveKey_47 : decode cX0_liveKey 47 = .ok (.iload 5, 2) := by decide +kernel
theorem dX0_liveKey_49 : decode cX0_liveKey 49 = .ok (.if_icmp .ne 8, 3) := by decide +kernel
theorem dX0_liveKey_52 : decode cX0_liveKey 52 = .ok (.iload 4, 2) := by decide +kernel
theorem dX0_liveKey_54 : decode cX0_liveKey 54 = .ok (.goto 4, 3) := by decide +kernel
theorem dX0_liveKey_57 : decode cX0_liveKey 57 = .ok (.iconst (-1), 1) := by decide +kernel
theorem dX0_liveKey_58 : decode cX0_liveKey 58 = .ok (.ireturn, 1) := by decide +kernel
theorem dX0_numberIn_0 : decode cX0_numberIn 0 = .ok (.aload_n 0, 1) := by decide +kernel
theorem dX0_numberIn_1 : decode cX0_numberIn 1 = .ok (.iload_n 1, 1) := by decide +kernel
theorem dX0_numberIn_2 : decode cX0_numberIn 2 = .ok (.invokevirtual 85, 3) := by decide +kernel
theorem dX0_numberIn_5 : decode cX0_numberIn 5 = .ok (.istore_n 3, 1) := by decide +kernel
theorem dX0_numberIn_6 : decode cX0_numberIn 6 = .ok (.aload_n 0, 1) := by decide +kernel
theorem dX0_numberIn_7 : decode cX0_numberIn 7 = .ok (.getfield 47, 3) := by decide +kernel
theorem dX0_numberIn_10 : decode cX0_numberIn 10 = .ok (.iconst 4, 1) := by decide +kernel
theorem dX0_numberIn_11 : decode cX0_numberIn 11 = .ok (.iload_n 3, 1) := by decide +kernel
theorem dX0_numberIn_12 : decode cX0_numberIn 12 = .ok (.imul, 1) := by decide +kernel
theorem dX0_numberIn_13 : decode cX0_numberIn 13 = .ok (.iload_n 2, 1) := by decide +kernel
theorem dX0_numberIn_14 : decode cX0_numberIn 14 = .ok (.iadd, 1) := by decide +kernel
end
section
set_option maxRecDepth 100000
theorem dX0_numberIn_15 : decode cX0_numberIn 15 = .ok (.iaload, 1) := by decide +kernel
theorem dX0_numberIn_16 : decode cX0_numberIn 16 = .ok (.ireturn, 1) := by decide +kernel
theorem dX0_rescind_0 : decode cX0_rescind 0 = .ok (.iload_n 1, 1) := by decide +kernel
theorem dX0_rescind_1 : decode cX0_rescind 1 = .ok (.ifCond .lt 9, 3) := by decide +kernel
theorem dX0_rescind_4 : decode cX0_rescind 4 = .ok (.iload_n 1, 1) := by decide +kernel
theorem dX0_rescind_5 : decode cX0_rescind 5 = .ok (.bipush 15, 2) := by decide +kernel
theorem dX0_rescind_7 : decode cX0_rescind 7 = .ok (.if_icmp .le 5, 3) := by decide +kernel
theorem dX0_rescind_10 : decode cX0_rescind 10 = .ok (.iconst (-1), 1) := by decide +kernel
theorem dX0_rescind_11 : decode cX0_rescind 11 = .ok (.ireturn, 1) := by decide +kernel
theorem dX0_rescind_12 : decode cX0_rescind 12 = .ok (.aload_n 0, 1) := by decide +kernel
theorem dX0_rescind_13 : decode cX0_rescind 13 = .ok (.iload_n 1, 1) := by decide +kernel
theorem dX0_rescind_14 : decode cX0_rescind 14 = .ok (.invokevirtual 85, 3) := by decide +kernel
theorem dX0_rescind_17 : decode cX0_rescind 17 = .ok (.istore_n 2, 1) := by decide +kernel
theorem dX0_rescind_18 : decode cX0_rescind 18 = .ok (.aload_n 0, 1) := by decide +kernel
theorem dX0_rescind_19 : decode cX0_rescind 19 = .ok (.iload_n 2, 1) := by decide +kernel
theorem dX0_rescind_20 : decode cX0_rescind 20 = .ok (.invokevirtual 88, 3) := by decide +kernel
theorem dX0_rescind_23 : decode cX0_rescind 23 = .ok (.aload_n 0, 1) := by decide +kernel
theorem dX0_rescind_24 : decode cX0_rescind 24 = .ok (.getfield 56, 3) := by decide +kernel
theorem dX0_rescind_27 : decode cX0_rescind 27 = .ok (.iload_n 2, 1) := by decide +kernel
theorem dX0_rescind_28 : decode cX0_rescind 28 = .ok (.dup2, 1) := by decide +kernel
theorem dX0_rescind_29 : decode cX0_rescind 29 = .ok (.iaload, 1) := by decide +kernel
theorem dX0_rescind_30 : decode cX0_rescind 30 = .ok (.iconst 1, 1) := by decide +kernel
theorem dX0_rescind_31 : decode cX0_rescind 31 = .ok (.iadd, 1) := by decide +kernel
theorem dX0_rescind_32 : decode cX0_rescind 32 = .ok (.iastore, 1) := by decide +kernel
theorem dX0_rescind_33 : decode cX0_rescind 33 = .ok (.iconst 4, 1) := by decide +kernel
theorem dX0_rescind_34 : decode cX0_rescind 34 = .ok (.iload_n 2, 1) := by decide +kernel
theorem dX0_rescind_35 : decode cX0_rescind 35 = .ok (.imul, 1) := by decide +kernel
theorem dX0_rescind_36 : decode cX0_rescind 36 = .ok (.istore_n 3, 1) := by decide +kernel
theorem dX0_rescind_37 : decode cX0_rescind 37 = .ok (.iload_n 3, 1) := by decide +kernel
theorem dX0_rescind_38 : decode cX0_rescind 38 = .ok (.iconst 4, 1) := by decide +kernel
theorem dX0_rescind_39 : decode cX0_rescind 39 = .ok (.iload_n 2, 1) := by decide +kernel
theorem dX0_rescind_40 : decode cX0_rescind 40 = .ok (.imul, 1) := by decide +kernel
theorem dX0_rescind_41 : decode cX0_rescind 41 = .ok (.iconst 4, 1) := by decide +kernel
theorem dX0_rescind_42 : decode cX0_rescind 42 = .ok (.iadd, 1) := by decide +kernel
theorem dX0_rescind_43 : decode cX0_rescind 43 = .ok (.if_icmp .ge 30, 3) := by decide +kernel
theorem dX0_rescind_46 : decode cX0_rescind 46 = .ok (.aload_n 0, 1) := by decide +kernel
theorem dX0_rescind_47 : decode cX0_rescind 47 = .ok (.getfield 47, 3) := by decide +kernel
theorem dX0_rescind_50 : decode cX0_rescind 50 = .ok (.iload_n 3, 1) := by decide +kernel
theorem dX0_rescind_51 : decode cX0_rescind 51 = .ok (.iconst 0, 1) := by decide +kernel
theorem dX0_rescind_52 : decode cX0_rescind 52 = .ok (.iastore, 1) := by decide +kernel
theorem dX0_rescind_53 : decode cX0_rescind 53 = .ok (.aload_n 0, 1) := by decide +kernel
theorem dX0_rescind_54 : decode cX0_rescind 54 = .ok (.getfield 50, 3) := by decide +kernel
theorem dX0_rescind_57 : decode cX0_rescind 57 = .ok (.iload_n 3, 1) := by decide +kernel
theorem dX0_rescind_58 : decode cX0_rescind 58 = .ok (.iconst (-1), 1) := by decide +kernel
theorem dX0_rescind_59 : decode cX0_rescind 59 = .ok (.iastore, 1) := by decide +kernel
theorem dX0_rescind_60 : decode cX0_rescind 60 = .ok (.aload_n 0, 1) := by decide +kernel
theorem dX0_rescind_61 : decode cX0_rescind 61 = .ok (.getfield 53, 3) := by decide +kernel
theorem dX0_rescind_64 : decode cX0_rescind 64 = .ok (.iload_n 3, 1) := by decide +kernel
theorem dX0_rescind_65 : decode cX0_rescind 65 = .ok (.iconst 0, 1) := by decide +kernel
theorem dX0_rescind_66 : decode cX0_rescind 66 = .ok (.iastore, 1) := by decide +kernel
theorem dX0_rescind_67 : decode cX0_rescind 67 = .ok (.iinc 3 1, 3) := by decide +kernel
theorem dX0_rescind_70 : decode cX0_rescind 70 = .ok (.goto (-33), 3) := by decide +kernel
theorem dX0_rescind_73 : decode cX0_rescind 73 = .ok (.iconst 0, 1) := by decide +kernel
theorem dX0_rescind_74 : decode cX0_rescind 74 = .ok (.ireturn, 1) := by decide +kernel
theorem dX0_key_0 : decode cX0_key 0 = .ok (.iload_n 1, 1) := by decide +kernel
theorem dX0_key_1 : decode cX0_key 1 = .ok (.iload_n 2, 1) := by decide +kernel
theorem dX0_key_2 : decode cX0_key 2 = .ok (.invokestatic 66, 3) := by decide +kernel
theorem dX0_key_5 : decode cX0_key 5 = .ok (.ifCond .ne 5, 3) := by decide +kernel
theorem dX0_key_8 : decode cX0_key 8 = .ok (.iconst (-1), 1) := by decide +kernel
theorem dX0_key_9 : decode cX0_key 9 = .ok (.ireturn, 1) := by decide +kernel
theorem dX0_key_10 : decode cX0_key 10 = .ok (.aload_n 0, 1) := by decide +kernel
theorem dX0_key_11 : decode cX0_key 11 = .ok (.iload_n 1, 1) := by decide +kernel
theorem dX0_key_12 : decode cX0_key 12 = .ok (.iload_n 2, 1) := by decide +kernel
theorem dX0_key_13 : decode cX0_key 13 = .ok (.invokevirtual 78, 3) := by decide +kernel
theorem dX0_key_16 : decode cX0_key 16 = .ok (.istore_n 3, 1) := by decide +kernel
theorem dX0_key_17 : decode cX0_key 17 = .ok (.iload_n 3, 1) := by decide +kernel
theorem dX0_key_18 : decode cX0_key 18 = .ok (.ifCond .ge 8, 3) := by decide +kernel
theorem dX0_key_21 : decode cX0_key 21 = .ok (.bipush (-2), 2) := by decide +kernel
theorem dX0_key_23 : decode cX0_key 23 = .ok (.goto 4, 3) := by decide +kernel
theorem dX0_key_26 : decode cX0_key 26 = .ok (.iload_n 3, 1) := by decide +kernel
theorem dX0_key_27 : decode cX0_key 27 = .ok (.ireturn, 1) := by decide +kernel
theorem dX0_number_0 : decode cX0_number 0 = .ok (.iload_n 1, 1) := by decide +kernel
theorem dX0_number_1 : decode cX0_number 1 = .ok (.iload_n 2, 1) := by decide +kernel
theorem dX0_number_2 : decode cX0_number 2 = .ok (.invokestatic 66, 3) := by decide +kernel
theorem dX0_number_5 : decode cX0_number 5 = .ok (.ifCond .eq 12, 3) := by decide +kernel
theorem dX0_number_8 : decode cX0_number 8 = .ok (.aload_n 0, 1) := by decide +kernel
theorem dX0_number_9 : decode cX0_number 9 = .ok (.iload_n 1, 1) := by decide +kernel
theorem dX0_number_10 : decode cX0_number 10 = .ok (.iload_n 2, 1) := by decide +kernel
theorem dX0_number_11 : decode cX0_number 11 = .ok (.invokevirtual 82, 3) := by decide +kernel
theorem dX0_number_14 : decode cX0_number 14 = .ok (.goto 4, 3) := by decide +kernel
theorem dX0_number_17 : decode cX0_number 17 = .ok (.iconst 0, 1) := by decide +kernel
theorem dX0_number_18 : decode cX0_number 18 = .ok (.ireturn, 1) := by decide +kernel
theorem dX0_follow_0 : decode cX0_follow 0 = .ok (.iload_n 1, 1) := by decide +kernel
theorem dX0_follow_1 : decode cX0_follow 1 = .ok (.iload_n 2, 1) := by decide +kernel
theorem dX0_follow_2 : decode cX0_follow 2 = .ok (.invokestatic 66, 3) := by decide +kernel
theorem dX0_follow_5 : decode cX0_follow 5 = .ok (.ifCond .ne 5, 3) := by decide +kernel
theorem dX0_follow_8 : decode cX0_follow 8 = .ok (.iconst (-1), 1) := by decide +kernel
theorem dX0_follow_9 : decode cX0_follow 9 = .ok (.ireturn, 1) := by decide +kernel
theorem dX0_follow_10 : decode cX0_follow 10 = .ok (.iload_n 1, 1) := by decide +kernel
theorem dX0_follow_11 : decode cX0_follow 11 = .ok (.istore 4, 2) := by decide +kernel
theorem dX0_follow_13 : decode cX0_follow 13 = .ok (.iconst 0, 1) := by decide +kernel
theorem dX0_follow_14 : decode cX0_follow 14 = .ok (.istore 5, 2) := by decide +kernel
theorem dX0_follow_16 : decode cX0_follow 16 = .ok (.iload 5, 2) := by decide +kernel
theorem dX0_follow_18 : decode cX0_follow 18 = .ok (.iload_n 3, 1) := by decide +kernel
theorem dX0_follow_19 : decode cX0_follow 19 = .ok (.if_icmp .ge 33, 3) := by decide +kernel
theorem dX0_follow_22 : decode cX0_follow 22 = .ok (.iload 5, 2) := by decide +kernel
theorem dX0_follow_24 : decode cX0_follow 24 = .ok (.bipush 16, 2) := by decide +kernel
theorem dX0_follow_26 : decode cX0_follow 26 = .ok (.if_icmp .ge 26, 3) := by decide +kernel
theorem dX0_follow_29 : decode cX0_follow 29 = .ok (.aload_n 0, 1) := by decide +kernel
theorem dX0_follow_30 : decode cX0_follow 30 = .ok (.iload 4, 2) := by decide +kernel
theorem dX0_follow_32 : decode cX0_follow 32 = .ok (.iload_n 2, 1) := by decide +kernel
theorem dX0_follow_33 : decode cX0_follow 33 = .ok (.invokevirtual 78, 3) := by decide +kernel
theorem dX0_follow_36 : decode cX0_follow 36 = .ok (.istore 4, 2) := by decide +kernel
theorem dX0_follow_38 : decode cX0_follow 38 = .ok (.iload 4, 2) := by decide +kernel
theorem dX0_follow_40 : decode cX0_follow 40 = .ok (.ifCond .ge 6, 3) := by decide +kernel
theorem dX0_follow_43 : decode cX0_follow 43 = .ok (.bipush (-2), 2) := by decide +kernel
theorem dX0_follow_45 : decode cX0_follow 45 = .ok (.ireturn, 1) := by decide +kernel
theorem dX0_follow_46 : decode cX0_follow 46 = .ok (.iinc 5 1, 3) := by decide +kernel
theorem dX0_follow_49 : decode cX0_follow 49 = .ok (.goto (-33), 3) := by decide +kernel
theorem dX0_follow_52 : decode cX0_follow 52 = .ok (.iload 4, 2) := by decide +kernel
theorem dX0_follow_54 : decode cX0_follow 54 = .ok (.ireturn, 1) := by decide +kernel
theorem dX0_snapshot_0 : decode cX0_snapshot 0 = .ok (.aload_n 0, 1) := by decide +kernel
theorem dX0_snapshot_1 : decode cX0_snapshot 1 = .ok (.getfield 92, 3) := by decide +kernel
theorem dX0_snapshot_4 : decode cX0_snapshot 4 = .ok (.ifCond .lt 5, 3) := by decide +kernel
theorem dX0_snapshot_7 : decode cX0_snapshot 7 = .ok (.iconst (-1), 1) := by decide +kernel
theorem dX0_snapshot_8 : decode cX0_snapshot 8 = .ok (.ireturn, 1) := by decide +kernel
theorem dX0_snapshot_9 : decode cX0_snapshot 9 = .ok (.iconst 0, 1) := by decide +kernel
theorem dX0_snapshot_10 : decode cX0_snapshot 10 = .ok (.istore_n 1, 1) := by decide +kernel
theorem dX0_snapshot_11 : decode cX0_snapshot 11 = .ok (.iload_n 1, 1) := by decide +kernel
theorem dX0_snapshot_12 : decode cX0_snapshot 12 = .ok (.iconst 5, 1) := by decide +kernel
theorem dX0_snapshot_13 : decode cX0_snapshot 13 = .ok (.if_icmp .ge 21, 3) := by decide +kernel
theorem dX0_snapshot_16 : decode cX0_snapshot 16 = .ok (.aload_n 0, 1) := by decide +kernel
theorem dX0_snapshot_17 : decode cX0_snapshot 17 = .ok (.getfield 44, 3) := by decide +kernel
theorem dX0_snapshot_20 : decode cX0_snapshot 20 = .ok (.iload_n 1, 1) := by decide +kernel
theorem dX0_snapshot_21 : decode cX0_snapshot 21 = .ok (.aload_n 0, 1) := by decide +kernel
theorem dX0_snapshot_22 : decode cX0_snapshot 22 = .ok (.getfield 41, 3) := by decide +kernel
theorem dX0_snapshot_25 : decode cX0_snapshot 25 = .ok (.iload_n 1, 1) := by decide +kernel
theorem dX0_snapshot_26 : decode cX0_snapshot 26 = .ok (.baload, 1) := by decide +kernel
theorem dX0_snapshot_27 : decode cX0_snapshot 27 = .ok (.bastore, 1) := by decide +kernel
theorem dX0_snapshot_28 : decode cX0_snapshot 28 = .ok (.iinc 1 1, 3) := by decide +kernel
theorem dX0_snapshot_31 : decode cX0_snapshot 31 = .ok (.goto (-20), 3) := by decide +kernel
theorem dX0_snapshot_34 : decode cX0_snapshot 34 = .ok (.aload_n 0, 1) := by decide +kernel
theorem dX0_snapshot_35 : decode cX0_snapshot 35 = .ok (.aload_n 0, 1) := by decide +kernel
theorem dX0_snapshot_36 : decode cX0_snapshot 36 = .ok (.getfield 95, 3) := by decide +kernel
theorem dX0_snapshot_39 : decode cX0_snapshot 39 = .ok (.putfield 92, 3) := by decide +kernel
theorem dX0_snapshot_42 : decode cX0_snapshot 42 = .ok (.aload_n 0, 1) := by decide +kernel
theorem dX0_snapshot_43 : decode cX0_snapshot 43 = .ok (.aload_n 0, 1) := by decide +kernel
theorem dX0_snapshot_44 : decode cX0_snapshot 44 = .ok (.invokevirtual 98, 3) := by decide +kernel
theorem dX0_snapshot_47 : decode cX0_snapshot 47 = .ok (.putfield 95, 3) := by decide +kernel
theorem dX0_snapshot_50 : decode cX0_snapshot 50 = .ok (.aload_n 0, 1) := by decide +kernel
theorem dX0_snapshot_51 : decode cX0_snapshot 51 = .ok (.aload_n 0, 1) := by decide +kernel
theorem dX0_snapshot_52 : decode cX0_snapshot 52 = .ok (.getfield 95, 3) := by decide +kernel
theorem dX0_snapshot_55 : decode cX0_snapshot 55 = .ok (.invokevirtual 102, 3) := by decide +kernel
theorem dX0_snapshot_58 : decode cX0_snapshot 58 = .ok (.iconst 0, 1) := by decide +kernel
theorem dX0_snapshot_59 : decode cX0_snapshot 59 = .ok (.ireturn, 1) := by decide +kernel
theorem dX0_settle_0 : decode cX0_settle 0 = .ok (.aload_n 0, 1) := by decide +kernel
theorem dX0_settle_1 : decode cX0_settle 1 = .ok (.getfield 92, 3) := by decide +kernel
theorem dX0_settle_4 : decode cX0_settle 4 = .ok (.ifCond .ge 5, 3) := by decide +kernel
theorem dX0_settle_7 : decode cX0_settle 7 = .ok (.iconst (-1), 1) := by decide +kernel
theorem dX0_settle_8 : decode cX0_settle 8 = .ok (.ireturn, 1) := by decide +kernel
theorem dX0_settle_9 : decode cX0_settle 9 = .ok (.iconst 0, 1) := by decide +kernel
theorem dX0_settle_10 : decode cX0_settle 10 = .ok (.istore_n 1, 1) := by decide +kernel
theorem dX0_settle_11 : decode cX0_settle 11 = .ok (.iload_n 1, 1) := by decide +kernel
theorem dX0_settle_12 : decode cX0_settle 12 = .ok (.iconst 5, 1) := by decide +kernel
theorem dX0_settle_13 : decode cX0_settle 13 = .ok (.if_icmp .ge 23, 3) := by decide +kernel
theorem dX0_settle_16 : decode cX0_settle 16 = .ok (.aload_n 0, 1) := by decide +kernel
theorem dX0_settle_17 : decode cX0_settle 17 = .ok (.getfield 44, 3) := by decide +kernel
theorem dX0_settle_20 : decode cX0_settle 20 = .ok (.iload_n 1, 1) := by decide +kernel
theorem dX0_settle_21 : decode cX0_settle 21 = .ok (.baload, 1) := by decide +kernel
theorem dX0_settle_22 : decode cX0_settle 22 = .ok (.ifCond .eq 8, 3) := by decide +kernel
theorem dX0_settle_25 : decode cX0_settle 25 = .ok (.aload_n 0, 1) := by decide +kernel
theorem dX0_settle_26 : decode cX0_settle 26 = .ok (.iload_n 1, 1) := by decide +kernel
theorem dX0_settle_27 : decode cX0_settle 27 = .ok (.invokevirtual 105, 3) := by decide +kernel
theorem dX0_settle_30 : decode cX0_settle 30 = .ok (.iinc 1 1, 3) := by decide +kernel
theorem dX0_settle_33 : decode cX0_settle 33 = .ok (.goto (-22), 3) := by decide +kernel
theorem dX0_settle_36 : decode cX0_settle 36 = .ok (.aload_n 0, 1) := by decide +kernel
theorem dX0_settle_37 : decode cX0_settle 37 = .ok (.bipush 16, 2) := by decide +kernel
theorem dX0_settle_39 : decode cX0_settle 39 = .ok (.invokevirtual 108, 3) := by decide +kernel
theorem dX0_settle_42 : decode cX0_settle 42 = .ok (.aload_n 0, 1) := by decide +kernel
theorem dX0_settle_43 : decode cX0_settle 43 = .ok (.aload_n 0, 1) := by decide +kernel
theorem dX0_settle_44 : decode cX0_settle 44 = .ok (.getfield 92, 3) := by decide +kernel
theorem dX0_settle_47 : decode cX0_settle 47 = .ok (.putfield 59, 3) := by decide +kernel
theorem dX0_settle_50 : decode cX0_settle 50 = .ok (.aload_n 0, 1) := by decide +kernel
theorem dX0_settle_51 : decode cX0_settle 51 = .ok (.iconst (-1), 1) := by decide +kernel
theorem dX0_settle_52 : decode cX0_settle 52 = .ok (.putfield 92, 3) := by decide +kernel
theorem dX0_settle_55 : decode cX0_settle 55 = .ok (.iconst 0, 1) := by decide +kernel
theorem dX0_settle_56 : decode cX0_settle 56 = .ok (.ireturn, 1) := by decide +kernel
theorem dX0_moveHome_0 : decode cX0_moveHome 0 = .ok (.aload_n 0, 1) := by decide +kernel
theorem dX0_moveHome_1 : decode cX0_moveHome 1 = .ok (.getfield 59, 3) := by decide +kernel
theorem dX0_moveHome_4 : decode cX0_moveHome 4 = .ok (.ifCond .ge 4, 3) := by decide +kernel
theorem dX0_moveHome_7 : decode cX0_moveHome 7 = .ok (.return_, 1) := by decide +kernel
theorem dX0_moveHome_8 : decode cX0_moveHome 8 = .ok (.iconst 0, 1) := by decide +kernel
theorem dX0_moveHome_9 : decode cX0_moveHome 9 = .ok (.istore_n 2, 1) := by decide +kernel
theorem dX0_moveHome_10 : decode cX0_moveHome 10 = .ok (.iconst 0, 1) := by decide +kernel
theorem dX0_moveHome_11 : decode cX0_moveHome 11 = .ok (.istore_n 3, 1) := by decide +kernel
theorem dX0_moveHome_12 : decode cX0_moveHome 12 = .ok (.iload_n 3, 1) := by decide +kernel
theorem dX0_moveHome_13 : decode cX0_moveHome 13 = .ok (.bipush 16, 2) := by decide +kernel
theorem dX0_moveHome_15 : decode cX0_moveHome 15 = .ok (.if_icmp .ge 53, 3) := by decide +kernel
theorem dX0_moveHome_18 : decode cX0_moveHome 18 = .ok (.iload_n 2, 1) := by decide +kernel
theorem dX0_moveHome_19 : decode cX0_moveHome 19 = .ok (.iload_n 1, 1) := by decide +kernel
theorem dX0_moveHome_20 : decode cX0_moveHome 20 = .ok (.if_icmp .ge 48, 3) := by decide +kernel
theorem dX0_moveHome_23 : decode cX0_moveHome 23 = .ok (.bipush 16, 2) := by decide +kernel
theorem dX0_moveHome_25 : decode cX0_moveHome 25 = .ok (.aload_n 0, 1) := by decide +kernel
theorem dX0_moveHome_26 : decode cX0_moveHome 26 = .ok (.getfield 59, 3) := by decide +kernel
theorem dX0_moveHome_29 : decode cX0_moveHome 29 = .ok (.imul, 1) := by decide +kernel
theorem dX0_moveHome_30 : decode cX0_moveHome 30 = .ok (.iload_n 3, 1) := by decide +kernel
theorem dX0_moveHome_31 : decode cX0_moveHome 31 = .ok (.iadd, 1) := by decide +kernel
theorem dX0_moveHome_32 : decode cX0_moveHome 32 = .ok (.istore 4, 2) := by decide +kernel
theorem dX0_moveHome_34 : decode cX0_moveHome 34 = .ok (.aload_n 0, 1) := by decide +kernel
theorem dX0_moveHome_35 : decode cX0_moveHome 35 = .ok (.getfield 34, 3) := by decide +kernel
theorem dX0_moveHome_38 : decode cX0_moveHome 38 = .ok (.iload 4, 2) := by decide +kernel
theorem dX0_moveHome_40 : decode cX0_moveHome 40 = .ok (.baload, 1) := by decide +kernel
theorem dX0_moveHome_41 : decode cX0_moveHome 41 = .ok (.ifCond .eq 21, 3) := by decide +kernel
theorem dX0_moveHome_44 : decode cX0_moveHome 44 = .ok (.aload_n 0, 1) := by decide +kernel
theorem dX0_moveHome_45 : decode cX0_moveHome 45 = .ok (.iload 4, 2) := by decide +kernel
theorem dX0_moveHome_47 : decode cX0_moveHome 47 = .ok (.iload_n 3, 1) := by decide +kernel
theorem dX0_moveHome_48 : decode cX0_moveHome 48 = .ok (.invokevirtual 130, 3) := by decide +kernel
theorem dX0_moveHome_51 : decode cX0_moveHome 51 = .ok (.aload_n 0, 1) := by decide +kernel
theorem dX0_moveHome_52 : decode cX0_moveHome 52 = .ok (.getfield 34, 3) := by decide +kernel
theorem dX0_moveHome_55 : decode cX0_moveHome 55 = .ok (.iload 4, 2) := by decide +kernel
theorem dX0_moveHome_57 : decode cX0_moveHome 57 = .ok (.iconst 0, 1) := by decide +kernel
theorem dX0_moveHome_58 : decode cX0_moveHome 58 = .ok (.bastore, 1) := by decide +kernel
theorem dX0_moveHome_59 : decode cX0_moveHome 59 = .ok (.iinc 2 1, 3) := by decide +kernel
theorem dX0_moveHome_62 : decode cX0_moveHome 62 = .ok (.iinc 3 1, 3) := by decide +kernel
theorem dX0_moveHome_65 : decode cX0_moveHome 65 = .ok (.goto (-53), 3) := by decide +kernel
theorem dX0_moveHome_68 : decode cX0_moveHome 68 = .ok (.iload_n 2, 1) := by decide +kernel
theorem dX0_moveHome_69 : decode cX0_moveHome 69 = .ok (.iload_n 1, 1) := by decide +kernel
theorem dX0_moveHome_70 : decode cX0_moveHome 70 = .ok (.if_icmp .ge 8, 3) := by decide +kernel
theorem dX0_moveHome_73 : decode cX0_moveHome 73 = .ok (.aload_n 0, 1) := by decide +kernel
theorem dX0_moveHome_74 : decode cX0_moveHome 74 = .ok (.iconst (-1), 1) := by decide +kernel
theorem dX0_moveHome_75 : decode cX0_moveHome 75 = .ok (.putfield 59, 3) := by decide +kernel
theorem dX0_moveHome_78 : decode cX0_moveHome 78 = .ok (.return_, 1) := by decide +kernel
theorem dX0_copyHome_0 : decode cX0_copyHome 0 = .ok (.aload_n 0, 1) := by decide +kernel
theorem dX0_copyHome_1 : decode cX0_copyHome 1 = .ok (.getfield 19, 3) := by decide +kernel
theorem dX0_copyHome_4 : decode cX0_copyHome 4 = .ok (.iload_n 2, 1) := by decide +kernel
theorem dX0_copyHome_5 : decode cX0_copyHome 5 = .ok (.aload_n 0, 1) := by decide +kernel
theorem dX0_copyHome_6 : decode cX0_copyHome 6 = .ok (.getfield 31, 3) := by decide +kernel
theorem dX0_copyHome_9 : decode cX0_copyHome 9 = .ok (.iload_n 1, 1) := by decide +kernel
theorem dX0_copyHome_10 : decode cX0_copyHome 10 = .ok (.iaload, 1) := by decide +kernel
theorem dX0_copyHome_11 : decode cX0_copyHome 11 = .ok (.iastore, 1) := by decide +kernel
theorem dX0_copyHome_12 : decode cX0_copyHome 12 = .ok (.iconst 0, 1) := by decide +kernel
theorem dX0_copyHome_13 : decode cX0_copyHome 13 = .ok (.istore_n 3, 1) := by decide +kernel
theorem dX0_copyHome_14 : decode cX0_copyHome 14 = .ok (.iload_n 3, 1) := by decide +kernel
theorem dX0_copyHome_15 : decode cX0_copyHome 15 = .ok (.iconst 4, 1) := by decide +kernel
theorem dX0_copyHome_16 : decode cX0_copyHome 16 = .ok (.if_icmp .ge 69, 3) := by decide +kernel
theorem dX0_copyHome_19 : decode cX0_copyHome 19 = .ok (.aload_n 0, 1) := by decide +kernel
theorem dX0_copyHome_20 : decode cX0_copyHome 20 = .ok (.getfield 7, 3) := by decide +kernel
theorem dX0_copyHome_23 : decode cX0_copyHome 23 = .ok (.iconst 4, 1) := by decide +kernel
theorem dX0_copyHome_24 : decode cX0_copyHome 24 = .ok (.iload_n 2, 1) := by decide +kernel
theorem dX0_copyHome_25 : decode cX0_copyHome 25 = .ok (.imul, 1) := by decide +kernel
theorem dX0_copyHome_26 : decode cX0_copyHome 26 = .ok (.iload_n 3, 1) := by decide +kernel
theorem dX0_copyHome_27 : decode cX0_copyHome 27 = .ok (.iadd, 1) := by decide +kernel
theorem dX0_copyHome_28 : decode cX0_copyHome 28 = .ok (.aload_n 0, 1) := by decide +kernel
theorem dX0_copyHome_29 : decode cX0_copyHome 29 = .ok (.getfield 22, 3) := by decide +kernel
theorem dX0_copyHome_32 : decode cX0_copyHome 32 = .ok (.iconst 4, 1) := by decide +kernel
theorem dX0_copyHome_33 : decode cX0_copyHome 33 = .ok (.iload_n 1, 1) := by decide +kernel
theorem dX0_copyHome_34 : decode cX0_copyHome 34 = .ok (.imul, 1) := by decide +kernel
theorem dX0_copyHome_35 : decode cX0_copyHome 35 = .ok (.iload_n 3, 1) := by decide +kernel
theorem dX0_copyHome_36 : decode cX0_copyHome 36 = .ok (.iadd, 1) := by decide +kernel
theorem dX0_copyHome_37 : decode cX0_copyHome 37 = .ok (.iaload, 1) := by decide +kernel
theorem dX0_copyHome_38 : decode cX0_copyHome 38 = .ok (.iastore, 1) := by decide +kernel
theorem dX0_copyHome_39 : decode cX0_copyHome 39 = .ok (.aload_n 0, 1) := by decide +kernel
theorem dX0_copyHome_40 : decode cX0_copyHome 40 = .ok (.getfield 13, 3) := by decide +kernel
theorem dX0_copyHome_43 : decode cX0_copyHome 43 = .ok (.iconst 4, 1) := by decide +kernel
theorem dX0_copyHome_44 : decode cX0_copyHome 44 = .ok (.iload_n 2, 1) := by decide +kernel
theorem dX0_copyHome_45 : decode cX0_copyHome 45 = .ok (.imul, 1) := by decide +kernel
theorem dX0_copyHome_46 : decode cX0_copyHome 46 = .ok (.iload_n 3, 1) := by decide +kernel
theorem dX0_copyHome_47 : decode cX0_copyHome 47 = .ok (.iadd, 1) := by decide +kernel
theorem dX0_copyHome_48 : decode cX0_copyHome 48 = .ok (.aload_n 0, 1) := by decide +kernel
theorem dX0_copyHome_49 : decode cX0_copyHome 49 = .ok (.getfield 25, 3) := by decide +kernel
theorem dX0_copyHome_52 : decode cX0_copyHome 52 = .ok (.iconst 4, 1) := by decide +kernel
theorem dX0_copyHome_53 : decode cX0_copyHome 53 = .ok (.iload_n 1, 1) := by decide +kernel
theorem dX0_copyHome_54 : decode cX0_copyHome 54 = .ok (.imul, 1) := by decide +kernel
theorem dX0_copyHome_55 : decode cX0_copyHome 55 = .ok (.iload_n 3, 1) := by decide +kernel
theorem dX0_copyHome_56 : decode cX0_copyHome 56 = .ok (.iadd, 1) := by decide +kernel
theorem dX0_copyHome_57 : decode cX0_copyHome 57 = .ok (.iaload, 1) := by decide +kernel
theorem dX0_copyHome_58 : decode cX0_copyHome 58 = .ok (.iastore, 1) := by decide +kernel
theorem dX0_copyHome_59 : decode cX0_copyHome 59 = .ok (.aload_n 0, 1) := by decide +kernel
theorem dX0_copyHome_60 : decode cX0_copyHome 60 = .ok (.getfield 16, 3) := by decide +kernel
theorem dX0_copyHome_63 : decode cX0_copyHome 63 = .ok (.iconst 4, 1) := by decide +kernel
theorem dX0_copyHome_64 : decode cX0_copyHome 64 = .ok (.iload_n 2, 1) := by decide +kernel
theorem dX0_copyHome_65 : decode cX0_copyHome 65 = .ok (.imul, 1) := by decide +kernel
theorem dX0_copyHome_66 : decode cX0_copyHome 66 = .ok (.iload_n 3, 1) := by decide +kernel
theorem dX0_copyHome_67 : decode cX0_copyHome 67 = .ok (.iadd, 1) := by decide +kernel
theorem dX0_copyHome_68 : decode cX0_copyHome 68 = .ok (.aload_n 0, 1) := by decide +kernel
theorem dX0_copyHome_69 : decode cX0_copyHome 69 = .ok (.getfield 28, 3) := by decide +kernel
theorem dX0_copyHome_72 : decode cX0_copyHome 72 = .ok (.iconst 4, 1) := by decide +kernel
theorem dX0_copyHome_73 : decode cX0_copyHome 73 = .ok (.iload_n 1, 1) := by decide +kernel
theorem dX0_copyHome_74 : decode cX0_copyHome 74 = .ok (.imul, 1) := by decide +kernel
theorem dX0_copyHome_75 : decode cX0_copyHome 75 = .ok (.iload_n 3, 1) := by decide +kernel
theorem dX0_copyHome_76 : decode cX0_copyHome 76 = .ok (.iadd, 1) := by decide +kernel
theorem dX0_copyHome_77 : decode cX0_copyHome 77 = .ok (.iaload, 1) := by decide +kernel
theorem dX0_copyHome_78 : decode cX0_copyHome 78 = .ok (.iastore, 1) := by decide +kernel
theorem dX0_copyHome_79 : decode cX0_copyHome 79 = .ok (.iinc 3 1, 3) := by decide +kernel
theorem dX0_copyHome_82 : decode cX0_copyHome 82 = .ok (.goto (-68), 3) := by decide +kernel
theorem dX0_copyHome_85 : decode cX0_copyHome 85 = .ok (.return_, 1) := by decide +kernel
theorem dX0_crash_0 : decode cX0_crash 0 = .ok (.aload_n 0, 1) := by decide +kernel
theorem dX0_crash_1 : decode cX0_crash 1 = .ok (.invokevirtual 63, 3) := by decide +kernel
theorem dX0_crash_4 : decode cX0_crash 4 = .ok (.return_, 1) := by decide +kernel
theorem dX0_idle_0 : decode cX0_idle 0 = .ok (.iconst 0, 1) := by decide +kernel
theorem dX0_idle_1 : decode cX0_idle 1 = .ok (.istore_n 2, 1) := by decide +kernel
theorem dX0_idle_2 : decode cX0_idle 2 = .ok (.iload_n 2, 1) := by decide +kernel
theorem dX0_idle_3 : decode cX0_idle 3 = .ok (.iconst 5, 1) := by decide +kernel
theorem dX0_idle_4 : decode cX0_idle 4 = .ok (.if_icmp .ge 28, 3) := by decide +kernel
theorem dX0_idle_7 : decode cX0_idle 7 = .ok (.iload_n 2, 1) := by decide +kernel
theorem dX0_idle_8 : decode cX0_idle 8 = .ok (.iload_n 1, 1) := by decide +kernel
theorem dX0_idle_9 : decode cX0_idle 9 = .ok (.if_icmp .ge 23, 3) := by decide +kernel
theorem dX0_idle_12 : decode cX0_idle 12 = .ok (.aload_n 0, 1) := by decide +kernel
theorem dX0_idle_13 : decode cX0_idle 13 = .ok (.getfield 44, 3) := by decide +kernel
theorem dX0_idle_16 : decode cX0_idle 16 = .ok (.iload_n 2, 1) := by decide +kernel
theorem dX0_idle_17 : decode cX0_idle 17 = .ok (.baload, 1) := by decide +kernel
theorem dX0_idle_18 : decode cX0_idle 18 = .ok (.ifCond .eq 8, 3) := by decide +kernel
theorem dX0_idle_21 : decode cX0_idle 21 = .ok (.aload_n 0, 1) := by decide +kernel
theorem dX0_idle_22 : decode cX0_idle 22 = .ok (.iload_n 2, 1) := by decide +kernel
theorem dX0_idle_23 : decode cX0_idle 23 = .ok (.invokevirtual 105, 3) := by decide +kernel
theorem dX0_idle_26 : decode cX0_idle 26 = .ok (.iinc 2 1, 3) := by decide +kernel
theorem dX0_idle_29 : decode cX0_idle 29 = .ok (.goto (-27), 3) := by decide +kernel
theorem dX0_idle_32 : decode cX0_idle 32 = .ok (.aload_n 0, 1) := by decide +kernel
theorem dX0_idle_33 : decode cX0_idle 33 = .ok (.iload_n 1, 1) := by decide +kernel
theorem dX0_idle_34 : decode cX0_idle 34 = .ok (.invokevirtual 108, 3) := by decide +kernel
theorem dX0_idle_37 : decode cX0_idle 37 = .ok (.return_, 1) := by decide +kernel
theorem dX0_keysTo_0 : decode cX0_keysTo 0 = .ok (.iload_n 1, 1) := by decide +kernel
theorem dX0_keysTo_1 : decode cX0_keysTo 1 = .ok (.ifCond .lt 9, 3) := by decide +kernel
theorem dX0_keysTo_4 : decode cX0_keysTo 4 = .ok (.iload_n 1, 1) := by decide +kernel
theorem dX0_keysTo_5 : decode cX0_keysTo 5 = .ok (.bipush 15, 2) := by decide +kernel
theorem dX0_keysTo_7 : decode cX0_keysTo 7 = .ok (.if_icmp .le 5, 3) := by decide +kernel
theorem dX0_keysTo_10 : decode cX0_keysTo 10 = .ok (.iconst (-1), 1) := by decide +kernel
theorem dX0_keysTo_11 : decode cX0_keysTo 11 = .ok (.ireturn, 1) := by decide +kernel
theorem dX0_keysTo_12 : decode cX0_keysTo 12 = .ok (.aload_n 0, 1) := by decide +kernel
theorem dX0_keysTo_13 : decode cX0_keysTo 13 = .ok (.iload_n 1, 1) := by decide +kernel
theorem dX0_keysTo_14 : decode cX0_keysTo 14 = .ok (.invokevirtual 74, 3) := by decide +kernel
theorem dX0_keysTo_17 : decode cX0_keysTo 17 = .ok (.istore_n 2, 1) := by decide +kernel
theorem dX0_keysTo_18 : decode cX0_keysTo 18 = .ok (.iconst 0, 1) := by decide +kernel
theorem dX0_keysTo_19 : decode cX0_keysTo 19 = .ok (.istore_n 3, 1) := by decide +kernel
theorem dX0_keysTo_20 : decode cX0_keysTo 20 = .ok (.iconst 0, 1) := by decide +kernel
theorem dX0_keysTo_21 : decode cX0_keysTo 21 = .ok (.istore 4, 2) := by decide +kernel
theorem dX0_keysTo_23 : decode cX0_keysTo 23 = .ok (.iload 4, 2) := by decide +kernel
theorem dX0_keysTo_25 : decode cX0_keysTo 25 = .ok (.bipush 16, 2) := by decide +kernel
theorem dX0_keysTo_27 : decode cX0_keysTo 27 = .ok (.if_icmp .ge 65, 3) := by decide +kernel
theorem dX0_keysTo_30 : decode cX0_keysTo 30 = .ok (.aload_n 0, 1) := by decide +kernel
theorem dX0_keysTo_31 : decode cX0_keysTo 31 = .ok (.iload 4, 2) := by decide +kernel
theorem dX0_keysTo_33 : decode cX0_keysTo 33 = .ok (.invokevirtual 85, 3) := by decide +kernel
theorem dX0_keysTo_36 : decode cX0_keysTo 36 = .ok (.istore 5, 2) := by decide +kernel
theorem dX0_keysTo_38 : decode cX0_keysTo 38 = .ok (.iconst 4, 1) := by decide +kernel
theorem dX0_keysTo_39 : decode cX0_keysTo 39 = .ok (.iload 5, 2) := by decide +kernel
theorem dX0_keysTo_41 : decode cX0_keysTo 41 = .ok (.imul, 1) := by decide +kernel
theorem dX0_keysTo_42 : decode cX0_keysTo 42 = .ok (.istore 6, 2) := by decide +kernel
theorem dX0_keysTo_44 : decode cX0_keysTo 44 = .ok (.iload 6, 2) := by decide +kernel
theorem dX0_keysTo_46 : decode cX0_keysTo 46 = .ok (.iconst 4, 1) := by decide +kernel
theorem dX0_keysTo_47 : decode cX0_keysTo 47 = .ok (.iload 5, 2) := by decide +kernel
theorem dX0_keysTo_49 : decode cX0_keysTo 49 = .ok (.imul, 1) := by decide +kernel
theorem dX0_keysTo_50 : decode cX0_keysTo 50 = .ok (.iconst 4, 1) := by decide +kernel
theorem dX0_keysTo_51 : decode cX0_keysTo 51 = .ok (.iadd, 1) := by decide +kernel
theorem dX0_keysTo_52 : decode cX0_keysTo 52 = .ok (.if_icmp .ge 34, 3) := by decide +kernel
theorem dX0_keysTo_55 : decode cX0_keysTo 55 = .ok (.aload_n 0, 1) := by decide +kernel
theorem dX0_keysTo_56 : decode cX0_keysTo 56 = .ok (.getfield 50, 3) := by decide +kernel
theorem dX0_keysTo_59 : decode cX0_keysTo 59 = .ok (.iload 6, 2) := by decide +kernel
theorem dX0_keysTo_61 : decode cX0_keysTo 61 = .ok (.iaload, 1) := by decide +kernel
theorem dX0_keysTo_62 : decode cX0_keysTo 62 = .ok (.iload_n 1, 1) := by decide +kernel
theorem dX0_keysTo_63 : decode cX0_keysTo 63 = .ok (.if_icmp .ne 17, 3) := by decide +kernel
theorem dX0_keysTo_66 : decode cX0_keysTo 66 = .ok (.aload_n 0, 1) := by decide +kernel
theorem dX0_keysTo_67 : decode cX0_keysTo 67 = .ok (.getfield 53, 3) := by decide +kernel
theorem dX0_keysTo_70 : decode cX0_keysTo 70 = .ok (.iload 6, 2) := by decide +kernel
theorem dX0_keysTo_72 : decode cX0_keysTo 72 = .ok (.iaload, 1) := by decide +kernel
theorem dX0_keysTo_73 : decode cX0_keysTo 73 = .ok (.iload_n 2, 1) := by decide +kernel
theorem dX0_keysTo_74 : decode cX0_keysTo 74 = .ok (.if_icmp .ne 6, 3) := by decide +kernel
theorem dX0_keysTo_77 : decode cX0_keysTo 77 = .ok (.iinc 3 1, 3) := by decide +kernel
theorem dX0_keysTo_80 : decode cX0_keysTo 80 = .ok (.iinc 6 1, 3) := by decide +kernel
theorem dX0_keysTo_83 : decode cX0_keysTo 83 = .ok (.goto (-39), 3) := by decide +kernel
theorem dX0_keysTo_86 : decode cX0_keysTo 86 = .ok (.iinc 4 1, 3) := by decide +kernel
theorem dX0_keysTo_89 : decode cX0_keysTo 89 = .ok (.goto (-66), 3) := by decide +kernel
theorem dX0_keysTo_92 : decode cX0_keysTo 92 = .ok (.iload_n 3, 1) := by decide +kernel
theorem dX0_keysTo_93 : decode cX0_keysTo 93 = .ok (.ireturn, 1) := by decide +kernel
end
section
set_option maxRecDepth 100000
theorem dJ0_init_0 : decode cJ0_init 0 = .ok (.return_, 1) := by decide +kernel
theorem dX1_init_0 : decode cX1_init 0 = .ok (.aload_n 0, 1) := by decide +kernel
theorem dX1_init_1 : decode cX1_init 1 = .ok (.invokespecial 1, 3) := by decide +kernel
theorem dX1_init_4 : decode cX1_init 4 = .ok (.aload_n 0, 1) := by decide +kernel
theorem dX1_init_5 : decode cX1_init 5 = .ok (.bipush 64, 2) := by decide +kernel
theorem dX1_init_7 : decode cX1_init 7 = .ok (.newarray .boolean, 2) := by decide +kernel
theorem dX1_init_9 : decode cX1_init 9 = .ok (.putfield 7, 3) := by decide +kernel
theorem dX1_init_12 : decode cX1_init 12 = .ok (.aload_n 0, 1) := by decide +kernel
theorem dX1_init_13 : decode cX1_init 13 = .ok (.bipush 64, 2) := by decide +kernel
theorem dX1_init_15 : decode cX1_init 15 = .ok (.newarray .int, 2) := by decide +kernel
theorem dX1_init_17 : decode cX1_init 17 = .ok (.putfield 13, 3) := by decide +kernel
theorem dX1_init_20 : decode cX1_init 20 = .ok (.aload_n 0, 1) := by decide +kernel
theorem dX1_init_21 : decode cX1_init 21 = .ok (.bipush 64, 2) := by decide +kernel
theorem dX1_init_23 : decode cX1_init 23 = .ok (.newarray .boolean, 2) := by decide +kernel
theorem dX1_init_25 : decode cX1_init 25 = .ok (.putfield 17, 3) := by decide +kernel
theorem dX1_init_28 : decode cX1_init 28 = .ok (.aload_n 0, 1) := by decide +kernel
theorem dX1_init_29 : decode cX1_init 29 = .ok (.bipush 64, 2) := by decide +kernel
theorem dX1_init_31 : decode cX1_init 31 = .ok (.newarray .int, 2) := by decide +kernel
theorem dX1_init_33 : decode cX1_init 33 = .ok (.putfield 20, 3) := by decide +kernel
theorem dX1_init_36 : decode cX1_init 36 = .ok (.aload_n 0, 1) := by decide +kernel
theorem dX1_init_37 : decode cX1_init 37 = .ok (.bipush 64, 2) := by decide +kernel
theorem dX1_init_39 : decode cX1_init 39 = .ok (.newarray .boolean, 2) := by decide +kernel
theorem dX1_init_41 : decode cX1_init 41 = .ok (.putfield 23, 3) := by decide +kernel
theorem dX1_init_44 : decode cX1_init 44 = .ok (.aload_n 0, 1) := by decide +kernel
theorem dX1_init_45 : decode cX1_init 45 = .ok (.bipush 64, 2) := by decide +kernel
theorem dX1_init_47 : decode cX1_init 47 = .ok (.newarray .int, 2) := by decide +kernel
theorem dX1_init_49 : decode cX1_init 49 = .ok (.putfield 26, 3) := by decide +kernel
theorem dX1_init_52 : decode cX1_init 52 = .ok (.return_, 1) := by decide +kernel
theorem dX1_write_0 : decode cX1_write 0 = .ok (.iload_n 1, 1) := by decide +kernel
theorem dX1_write_1 : decode cX1_write 1 = .ok (.iload_n 2, 1) := by decide +kernel
theorem dX1_write_2 : decode cX1_write 2 = .ok (.invokestatic 33, 3) := by decide +kernel
theorem dX1_write_5 : decode cX1_write 5 = .ok (.ifCond .eq 5, 3) := by decide +kernel
theorem dX1_write_8 : decode cX1_write 8 = .ok (.iconst (-1), 1) := by decide +kernel
theorem dX1_write_9 : decode cX1_write 9 = .ok (.ireturn, 1) := by decide +kernel
theorem dX1_write_10 : decode cX1_write 10 = .ok (.aload_n 0, 1) := by decide +kernel
theorem dX1_write_11 : decode cX1_write 11 = .ok (.iconst 4, 1) := by decide +kernel
theorem dX1_write_12 : decode cX1_write 12 = .ok (.iload_n 1, 1) := by decide +kernel
theorem dX1_write_13 : decode cX1_write 13 = .ok (.imul, 1) := by decide +kernel
theorem dX1_write_14 : decode cX1_write 14 = .ok (.iload_n 2, 1) := by decide +kernel
theorem dX1_write_15 : decode cX1_write 15 = .ok (.iadd, 1) := by decide +kernel
theorem dX1_write_16 : decode cX1_write 16 = .ok (.iconst 0, 1) := by decide +kernel
theorem dX1_write_17 : decode cX1_write 17 = .ok (.iload_n 3, 1) := by decide +kernel
theorem dX1_write_18 : decode cX1_write 18 = .ok (.invokevirtual 37, 3) := by decide +kernel
theorem dX1_write_21 : decode cX1_write 21 = .ok (.iconst 0, 1) := by decide +kernel
theorem dX1_write_22 : decode cX1_write 22 = .ok (.ireturn, 1) := by decide +kernel
theorem dX1_bad_0 : decode cX1_bad 0 = .ok (.iload_n 0, 1) := by decide +kernel
theorem dX1_bad_1 : decode cX1_bad 1 = .ok (.invokestatic 29, 3) := by decide +kernel
theorem dX1_bad_4 : decode cX1_bad 4 = .ok (.ifCond .ne 12, 3) := by decide +kernel
theorem dX1_bad_7 : decode cX1_bad 7 = .ok (.iload_n 1, 1) := by decide +kernel
theorem dX1_bad_8 : decode cX1_bad 8 = .ok (.ifCond .lt 8, 3) := by decide +kernel
theorem dX1_bad_11 : decode cX1_bad 11 = .ok (.iload_n 1, 1) := by decide +kernel
theorem dX1_bad_12 : decode cX1_bad 12 = .ok (.iconst 3, 1) := by decide +kernel
theorem dX1_bad_13 : decode cX1_bad 13 = .ok (.if_icmp .le 7, 3) := by decide +kernel
theorem dX1_bad_16 : decode cX1_bad 16 = .ok (.iconst 1, 1) := by decide +kernel
theorem dX1_bad_17 : decode cX1_bad 17 = .ok (.goto 4, 3) := by decide +kernel
theorem dX1_bad_20 : decode cX1_bad 20 = .ok (.iconst 0, 1) := by decide +kernel
theorem dX1_bad_21 : decode cX1_bad 21 = .ok (.ireturn, 1) := by decide +kernel
theorem dX1_badNode_0 : decode cX1_badNode 0 = .ok (.iload_n 0, 1) := by decide +kernel
theorem dX1_badNode_1 : decode cX1_badNode 1 = .ok (.ifCond .lt 9, 3) := by decide +kernel
theorem dX1_badNode_4 : decode cX1_badNode 4 = .ok (.iload_n 0, 1) := by decide +kernel
theorem dX1_badNode_5 : decode cX1_badNode 5 = .ok (.bipush 15, 2) := by decide +kernel
theorem dX1_badNode_7 : decode cX1_badNode 7 = .ok (.if_icmp .le 7, 3) := by decide +kernel
theorem dX1_badNode_10 : decode cX1_badNode 10 = .ok (.iconst 1, 1) := by decide +kernel
theorem dX1_badNode_11 : decode cX1_badNode 11 = .ok (.goto 4, 3) := by decide +kernel
theorem dX1_badNode_14 : decode cX1_badNode 14 = .ok (.iconst 0, 1) := by decide +kernel
theorem dX1_badNode_15 : decode cX1_badNode 15 = .ok (.ireturn, 1) := by decide +kernel
theorem dX1_set_0 : decode cX1_set 0 = .ok (.aload_n 0, 1) := by decide +kernel
theorem dX1_set_1 : decode cX1_set 1 = .ok (.getfield 7, 3) := by decide +kernel
theorem dX1_set_4 : decode cX1_set 4 = .ok (.iload_n 1, 1) := by decide +kernel
theorem dX1_set_5 : decode cX1_set 5 = .ok (.iload_n 2, 1) := by decide +kernel
theorem dX1_set_6 : decode cX1_set 6 = .ok (.bastore, 1) := by decide +kernel
theorem dX1_set_7 : decode cX1_set 7 = .ok (.aload_n 0, 1) := by decide +kernel
theorem dX1_set_8 : decode cX1_set 8 = .ok (.getfield 13, 3) := by decide +kernel
theorem dX1_set_11 : decode cX1_set 11 = .ok (.iload_n 1, 1) := by decide +kernel
theorem dX1_set_12 : decode cX1_set 12 = .ok (.iload_n 3, 1) := by decide +kernel
theorem dX1_set_13 : decode cX1_set 13 = .ok (.iastore, 1) := by decide +kernel
theorem dX1_set_14 : decode cX1_set 14 = .ok (.return_, 1) := by decide +kernel
theorem dX1_writeKey_0 : decode cX1_writeKey 0 = .ok (.iload_n 1, 1) := by decide +kernel
theorem dX1_writeKey_1 : decode cX1_writeKey 1 = .ok (.iload_n 2, 1) := by decide +kernel
theorem dX1_writeKey_2 : decode cX1_writeKey 2 = .ok (.invokestatic 33, 3) := by decide +kernel
theorem dX1_writeKey_5 : decode cX1_writeKey 5 = .ok (.ifCond .ne 10, 3) := by decide +kernel
theorem dX1_writeKey_8 : decode cX1_writeKey 8 = .ok (.iload_n 3, 1) := by decide +kernel
theorem dX1_writeKey_9 : decode cX1_writeKey 9 = .ok (.invokestatic 29, 3) := by decide +kernel
theorem dX1_writeKey_12 : decode cX1_writeKey 12 = .ok (.ifCond .eq 5, 3) := by decide +kernel
theorem dX1_writeKey_15 : decode cX1_writeKey 15 = .ok (.iconst (-1), 1) := by decide +kernel
theorem dX1_writeKey_16 : decode cX1_writeKey 16 = .ok (.ireturn, 1) := by decide +kernel
theorem dX1_writeKey_17 : decode cX1_writeKey 17 = .ok (.aload_n 0, 1) := by decide +kernel
theorem dX1_writeKey_18 : decode cX1_writeKey 18 = .ok (.iconst 4, 1) := by decide +kernel
theorem dX1_writeKey_19 : decode cX1_writeKey 19 = .ok (.iload_n 1, 1) := by decide +kernel
theorem dX1_writeKey_20 : decode cX1_writeKey 20 = .ok (.imul, 1) := by decide +kernel
theorem dX1_writeKey_21 : decode cX1_writeKey 21 = .ok (.iload_n 2, 1) := by decide +kernel
theorem dX1_writeKey_22 : decode cX1_writeKey 22 = .ok (.iadd, 1) := by decide +kernel
theorem dX1_writeKey_23 : decode cX1_writeKey 23 = .ok (.iconst 1, 1) := by decide +kernel
theorem dX1_writeKey_24 : decode cX1_writeKey 24 = .ok (.iload_n 3, 1) := by decide +kernel
theorem dX1_writeKey_25 : decode cX1_writeKey 25 = .ok (.invokevirtual 37, 3) := by decide +kernel
theorem dX1_writeKey_28 : decode cX1_writeKey 28 = .ok (.iconst 0, 1) := by decide +kernel
theorem dX1_writeKey_29 : decode cX1_writeKey 29 = .ok (.ireturn, 1) := by decide +kernel
theorem dX1_copy_0 : decode cX1_copy 0 = .ok (.iload_n 1, 1) := by decide +kernel
theorem dX1_copy_1 : decode cX1_copy 1 = .ok (.iload_n 2, 1) := by decide +kernel
theorem dX1_copy_2 : decode cX1_copy 2 = .ok (.invokestatic 33, 3) := by decide +kernel
theorem dX1_copy_5 : decode cX1_copy 5 = .ok (.ifCond .ne 12, 3) := by decide +kernel
theorem dX1_copy_8 : decode cX1_copy 8 = .ok (.iload_n 3, 1) := by decide +kernel
theorem dX1_copy_9 : decode cX1_copy 9 = .ok (.iload 4, 2) := by decide +kernel
theorem dX1_copy_11 : decode cX1_copy 11 = .ok (.invokestatic 33, 3) := by decide +kernel
theorem dX1_copy_14 : decode cX1_copy 14 = .ok (.ifCond .eq 5, 3) := by decide +kernel
theorem dX1_copy_17 : decode cX1_copy 17 = .ok (.iconst (-1), 1) := by decide +kernel
theorem dX1_copy_18 : decode cX1_copy 18 = .ok (.ireturn, 1) := by decide +kernel
theorem dX1_copy_19 : decode cX1_copy 19 = .ok (.aload_n 0, 1) := by decide +kernel
theorem dX1_copy_20 : decode cX1_copy 20 = .ok (.iconst 4, 1) := by decide +kernel
theorem dX1_copy_21 : decode cX1_copy 21 = .ok (.iload_n 3, 1) := by decide +kernel
theorem dX1_copy_22 : decode cX1_copy 22 = .ok (.imul, 1) := by decide +kernel
theorem dX1_copy_23 : decode cX1_copy 23 = .ok (.iload 4, 2) := by decide +kernel
theorem dX1_copy_25 : decode cX1_copy 25 = .ok (.iadd, 1) := by decide +kernel
theorem dX1_copy_26 : decode cX1_copy 26 = .ok (.aload_n 0, 1) := by decide +kernel
theorem dX1_copy_27 : decode cX1_copy 27 = .ok (.getfield 7, 3) := by decide +kernel
theorem dX1_copy_30 : decode cX1_copy 30 = .ok (.iconst 4, 1) := by decide +kernel
theorem dX1_copy_31 : decode cX1_copy 31 = .ok (.iload_n 1, 1) := by decide +kernel
theorem dX1_copy_32 : decode cX1_copy 32 = .ok (.imul, 1) := by decide +kernel
theorem dX1_copy_33 : decode cX1_copy 33 = .ok (.iload_n 2, 1) := by decide +kernel
theorem dX1_copy_34 : decode cX1_copy 34 = .ok (.iadd, 1) := by decide +kernel
theorem dX1_copy_35 : decode cX1_copy 35 = .ok (.baload, 1) := by decide +kernel
theorem dX1_copy_36 : decode cX1_copy 36 = .ok (.aload_n 0, 1) := by decide +kernel
theorem dX1_copy_37 : decode cX1_copy 37 = .ok (.getfield 13, 3) := by decide +kernel
theorem dX1_copy_40 : decode cX1_copy 40 = .ok (.iconst 4, 1) := by decide +kernel
theorem dX1_copy_41 : decode cX1_copy 41 = .ok (.iload_n 1, 1) := by decide +kernel
theorem dX1_copy_42 : decode cX1_copy 42 = .ok (.imul, 1) := by decide +kernel
theorem dX1_copy_43 : decode cX1_copy 43 = .ok (.iload_n 2, 1) := by decide +kernel
theorem dX1_copy_44 : decode cX1_copy 44 = .ok (.iadd, 1) := by decide +kernel
theorem dX1_copy_45 : decode cX1_copy 45 = .ok (.iaload, 1) := by decide +kernel
theorem dX1_copy_46 : decode cX1_copy 46 = .ok (.invokevirtual 37, 3) := by decide +kernel
theorem dX1_copy_49 : decode cX1_copy 49 = .ok (.iconst 0, 1) := by decide +kernel
theorem dX1_copy_50 : decode cX1_copy 50 = .ok (.ireturn, 1) := by decide +kernel
theorem dX1_rescind_0 : decode cX1_rescind 0 = .ok (.iload_n 1, 1) := by decide +kernel
theorem dX1_rescind_1 : decode cX1_rescind 1 = .ok (.invokestatic 29, 3) := by decide +kernel
theorem dX1_rescind_4 : decode cX1_rescind 4 = .ok (.ifCond .eq 5, 3) := by decide +kernel
theorem dX1_rescind_7 : decode cX1_rescind 7 = .ok (.iconst (-1), 1) := by decide +kernel
theorem dX1_rescind_8 : decode cX1_rescind 8 = .ok (.ireturn, 1) := by decide +kernel
theorem dX1_rescind_9 : decode cX1_rescind 9 = .ok (.iconst 0, 1) := by decide +kernel
theorem dX1_rescind_10 : decode cX1_rescind 10 = .ok (.istore_n 2, 1) := by decide +kernel
theorem dX1_rescind_11 : decode cX1_rescind 11 = .ok (.iload_n 2, 1) := by decide +kernel
theorem dX1_rescind_12 : decode cX1_rescind 12 = .ok (.bipush 64, 2) := by decide +kernel
theorem dX1_rescind_14 : decode cX1_rescind 14 = .ok (.if_icmp .ge 42, 3) := by decide +kernel
theorem dX1_rescind_17 : decode cX1_rescind 17 = .ok (.iload_n 2, 1) := by decide +kernel
theorem dX1_rescind_18 : decode cX1_rescind 18 = .ok (.iconst 4, 1) := by decide +kernel
theorem dX1_rescind_19 : decode cX1_rescind 19 = .ok (.idiv, 1) := by decide +kernel
theorem dX1_rescind_20 : decode cX1_rescind 20 = .ok (.iload_n 1, 1) := by decide +kernel
theorem dX1_rescind_21 : decode cX1_rescind 21 = .ok (.if_icmp .eq 22, 3) := by decide +kernel
theorem dX1_rescind_24 : decode cX1_rescind 24 = .ok (.aload_n 0, 1) := by decide +kernel
theorem dX1_rescind_25 : decode cX1_rescind 25 = .ok (.getfield 7, 3) := by decide +kernel
theorem dX1_rescind_28 : decode cX1_rescind 28 = .ok (.iload_n 2, 1) := by decide +kernel
theorem dX1_rescind_29 : decode cX1_rescind 29 = .ok (.baload, 1) := by decide +kernel
theorem dX1_rescind_30 : decode cX1_rescind 30 = .ok (.ifCond .eq 20, 3) := by decide +kernel
theorem dX1_rescind_33 : decode cX1_rescind 33 = .ok (.aload_n 0, 1) := by decide +kernel
theorem dX1_rescind_34 : decode cX1_rescind 34 = .ok (.getfield 13, 3) := by decide +kernel
theorem dX1_rescind_37 : decode cX1_rescind 37 = .ok (.iload_n 2, 1) := by decide +kernel
theorem dX1_rescind_38 : decode cX1_rescind 38 = .ok (.iaload, 1) := by decide +kernel
theorem dX1_rescind_39 : decode cX1_rescind 39 = .ok (.iload_n 1, 1) := by decide +kernel
theorem dX1_rescind_40 : decode cX1_rescind 40 = .ok (.if_icmp .ne 10, 3) := by decide +kernel
theorem dX1_rescind_43 : decode cX1_rescind 43 = .ok (.aload_n 0, 1) := by decide +kernel
theorem dX1_rescind_44 : decode cX1_rescind 44 = .ok (.iload_n 2, 1) := by decide +kernel
theorem dX1_rescind_45 : decode cX1_rescind 45 = .ok (.iconst 0, 1) := by decide +kernel
theorem dX1_rescind_46 : decode cX1_rescind 46 = .ok (.iconst 0, 1) := by decide +kernel
theorem dX1_rescind_47 : decode cX1_rescind 47 = .ok (.invokevirtual 37, 3) := by decide +kernel
theorem dX1_rescind_50 : decode cX1_rescind 50 = .ok (.iinc 2 1, 3) := by decide +kernel
theorem dX1_rescind_53 : decode cX1_rescind 53 = .ok (.goto (-42), 3) := by decide +kernel
theorem dX1_rescind_56 : decode cX1_rescind 56 = .ok (.iconst 0, 1) := by decide +kernel
theorem dX1_rescind_57 : decode cX1_rescind 57 = .ok (.ireturn, 1) := by decide +kernel
theorem dX1_key_0 : decode cX1_key 0 = .ok (.iload_n 1, 1) := by decide +kernel
theorem dX1_key_1 : decode cX1_key 1 = .ok (.iload_n 2, 1) := by decide +kernel
theorem dX1_key_2 : decode cX1_key 2 = .ok (.invokestatic 33, 3) := by decide +kernel
theorem dX1_key_5 : decode cX1_key 5 = .ok (.ifCond .eq 5, 3) := by decide +kernel
theorem dX1_key_8 : decode cX1_key 8 = .ok (.iconst (-1), 1) := by decide +kernel
theorem dX1_key_9 : decode cX1_key 9 = .ok (.ireturn, 1) := by decide +kernel
theorem dX1_key_10 : decode cX1_key 10 = .ok (.aload_n 0, 1) := by decide +kernel
theorem dX1_key_11 : decode cX1_key 11 = .ok (.getfield 7, 3) := by decide +kernel
theorem dX1_key_14 : decode cX1_key 14 = .ok (.iconst 4, 1) := by decide +kernel
theorem dX1_key_15 : decode cX1_key 15 = .ok (.iload_n 1, 1) := by decide +kernel
theorem dX1_key_16 : decode cX1_key 16 = .ok (.imul, 1) := by decide +kernel
theorem dX1_key_17 : decode cX1_key 17 = .ok (.iload_n 2, 1) := by decide +kernel
theorem dX1_key_18 : decode cX1_key 18 = .ok (.iadd, 1) := by decide +kernel
theorem dX1_key_19 : decode cX1_key 19 = .ok (.baload, 1) := by decide +kernel
theorem dX1_key_20 : decode cX1_key 20 = .ok (.ifCond .eq 16, 3) := by decide +kernel
theorem dX1_key_23 : decode cX1_key 23 = .ok (.aload_n 0, 1) := by decide +kernel
theorem dX1_key_24 : decode cX1_key 24 = .ok (.getfield 13, 3) := by decide +kernel
theorem dX1_key_27 : decode cX1_key 27 = .ok (.iconst 4, 1) := by decide +kernel
theorem dX1_key_28 : decode cX1_key 28 = .ok (.iload_n 1, 1) := by decide +kernel
theorem dX1_key_29 : decode cX1_key 29 = .ok (.imul, 1) := by decide +kernel
theorem dX1_key_30 : decode cX1_key 30 = .ok (.iload_n 2, 1) := by decide +kernel
theorem dX1_key_31 : decode cX1_key 31 = .ok (.iadd, 1) := by decide +kernel
theorem dX1_key_32 : decode cX1_key 32 = .ok (.iaload, 1) := by decide +kernel
theorem dX1_key_33 : decode cX1_key 33 = .ok (.goto 5, 3) := by decide +kernel
theorem dX1_key_36 : decode cX1_key 36 = .ok (.bipush (-2), 2) := by decide +kernel
theorem dX1_key_38 : decode cX1_key 38 = .ok (.ireturn, 1) := by decide +kernel
theorem dX1_number_0 : decode cX1_number 0 = .ok (.iload_n 1, 1) := by decide +kernel
theorem dX1_number_1 : decode cX1_number 1 = .ok (.iload_n 2, 1) := by decide +kernel
theorem dX1_number_2 : decode cX1_number 2 = .ok (.invokestatic 33, 3) := by decide +kernel
theorem dX1_number_5 : decode cX1_number 5 = .ok (.ifCond .eq 5, 3) := by decide +kernel
theorem dX1_number_8 : decode cX1_number 8 = .ok (.iconst 0, 1) := by decide +kernel
theorem dX1_number_9 : decode cX1_number 9 = .ok (.ireturn, 1) := by decide +kernel
theorem dX1_number_10 : decode cX1_number 10 = .ok (.aload_n 0, 1) := by decide +kernel
theorem dX1_number_11 : decode cX1_number 11 = .ok (.getfield 7, 3) := by decide +kernel
theorem dX1_number_14 : decode cX1_number 14 = .ok (.iconst 4, 1) := by decide +kernel
theorem dX1_number_15 : decode cX1_number 15 = .ok (.iload_n 1, 1) := by decide +kernel
theorem dX1_number_16 : decode cX1_number 16 = .ok (.imul, 1) := by decide +kernel
theorem dX1_number_17 : decode cX1_number 17 = .ok (.iload_n 2, 1) := by decide +kernel
theorem dX1_number_18 : decode cX1_number 18 = .ok (.iadd, 1) := by decide +kernel
theorem dX1_number_19 : decode cX1_number 19 = .ok (.baload, 1) := by decide +kernel
theorem dX1_number_20 : decode cX1_number 20 = .ok (.ifCond .eq 7, 3) := by decide +kernel
theorem dX1_number_23 : decode cX1_number 23 = .ok (.iconst 0, 1) := by decide +kernel
theorem dX1_number_24 : decode cX1_number 24 = .ok (.goto 13, 3) := by decide +kernel
theorem dX1_number_27 : decode cX1_number 27 = .ok (.aload_n 0, 1) := by decide +kernel
theorem dX1_number_28 : decode cX1_number 28 = .ok (.getfield 13, 3) := by decide +kernel
theorem dX1_number_31 : decode cX1_number 31 = .ok (.iconst 4, 1) := by decide +kernel
theorem dX1_number_32 : decode cX1_number 32 = .ok (.iload_n 1, 1) := by decide +kernel
theorem dX1_number_33 : decode cX1_number 33 = .ok (.imul, 1) := by decide +kernel
theorem dX1_number_34 : decode cX1_number 34 = .ok (.iload_n 2, 1) := by decide +kernel
theorem dX1_number_35 : decode cX1_number 35 = .ok (.iadd, 1) := by decide +kernel
theorem dX1_number_36 : decode cX1_number 36 = .ok (.iaload, 1) := by decide +kernel
theorem dX1_number_37 : decode cX1_number 37 = .ok (.ireturn, 1) := by decide +kernel
theorem dX1_follow_0 : decode cX1_follow 0 = .ok (.iload_n 1, 1) := by decide +kernel
theorem dX1_follow_1 : decode cX1_follow 1 = .ok (.iload_n 2, 1) := by decide +kernel
theorem dX1_follow_2 : decode cX1_follow 2 = .ok (.invokestatic 33, 3) := by decide +kernel
theorem dX1_follow_5 : decode cX1_follow 5 = .ok (.ifCond .eq 5, 3) := by decide +kernel
theorem dX1_follow_8 : decode cX1_follow 8 = .ok (.iconst (-1), 1) := by decide +kernel
theorem dX1_follow_9 : decode cX1_follow 9 = .ok (.ireturn, 1) := by decide +kernel
theorem dX1_follow_10 : decode cX1_follow 10 = .ok (.iload_n 3, 1) := by decide +kernel
theorem dX1_follow_11 : decode cX1_follow 11 = .ok (.ifCond .ge 7, 3) := by decide +kernel
theorem dX1_follow_14 : decode cX1_follow 14 = .ok (.iconst 0, 1) := by decide +kernel
theorem dX1_follow_15 : decode cX1_follow 15 = .ok (.goto 15, 3) := by decide +kernel
theorem dX1_follow_18 : decode cX1_follow 18 = .ok (.iload_n 3, 1) := by decide +kernel
theorem dX1_follow_19 : decode cX1_follow 19 = .ok (.bipush 16, 2) := by decide +kernel
theorem dX1_follow_21 : decode cX1_follow 21 = .ok (.if_icmp .le 8, 3) := by decide +kernel
theorem dX1_follow_24 : decode cX1_follow 24 = .ok (.bipush 16, 2) := by decide +kernel
theorem dX1_follow_26 : decode cX1_follow 26 = .ok (.goto 4, 3) := by decide +kernel
theorem dX1_follow_29 : decode cX1_follow 29 = .ok (.iload_n 3, 1) := by decide +kernel
theorem dX1_follow_30 : decode cX1_follow 30 = .ok (.istore 4, 2) := by decide +kernel
theorem dX1_follow_32 : decode cX1_follow 32 = .ok (.iload_n 1, 1) := by decide +kernel
theorem dX1_follow_33 : decode cX1_follow 33 = .ok (.istore 5, 2) := by decide +kernel
theorem dX1_follow_35 : decode cX1_follow 35 = .ok (.iconst 0, 1) := by decide +kernel
theorem dX1_follow_36 : decode cX1_follow 36 = .ok (.istore 6, 2) := by decide +kernel
theorem dX1_follow_38 : decode cX1_follow 38 = .ok (.iload 6, 2) := by decide +kernel
theorem dX1_follow_40 : decode cX1_follow 40 = .ok (.iload 4, 2) := by decide +kernel
theorem dX1_follow_42 : decode cX1_follow 42 = .ok (.if_icmp .ge 39, 3) := by decide +kernel
theorem dX1_follow_45 : decode cX1_follow 45 = .ok (.aload_n 0, 1) := by decide +kernel
theorem dX1_follow_46 : decode cX1_follow 46 = .ok (.getfield 7, 3) := by decide +kernel
theorem dX1_follow_49 : decode cX1_follow 49 = .ok (.iconst 4, 1) := by decide +kernel
theorem dX1_follow_50 : decode cX1_follow 50 = .ok (.iload 5, 2) := by decide +kernel
theorem dX1_follow_52 : decode cX1_follow 52 = .ok (.imul, 1) := by decide +kernel
theorem dX1_follow_53 : decode cX1_follow 53 = .ok (.iload_n 2, 1) := by decide +kernel
theorem dX1_follow_54 : decode cX1_follow 54 = .ok (.iadd, 1) := by decide +kernel
theorem dX1_follow_55 : decode cX1_follow 55 = .ok (.baload, 1) := by decide +kernel
theorem dX1_follow_56 : decode cX1_follow 56 = .ok (.ifCond .ne 6, 3) := by decide +kernel
theorem dX1_follow_59 : decode cX1_follow 59 = .ok (.bipush (-2), 2) := by decide +kernel
theorem dX1_follow_61 : decode cX1_follow 61 = .ok (.ireturn, 1) := by decide +kernel
theorem dX1_follow_62 : decode cX1_follow 62 = .ok (.aload_n 0, 1) := by decide +kernel
theorem dX1_follow_63 : decode cX1_follow 63 = .ok (.getfield 13, 3) := by decide +kernel
theorem dX1_follow_66 : decode cX1_follow 66 = .ok (.iconst 4, 1) := by decide +kernel
theorem dX1_follow_67 : decode cX1_follow 67 = .ok (.iload 5, 2) := by decide +kernel
theorem dX1_follow_69 : decode cX1_follow 69 = .ok (.imul, 1) := by decide +kernel
theorem dX1_follow_70 : decode cX1_follow 70 = .ok (.iload_n 2, 1) := by decide +kernel
theorem dX1_follow_71 : decode cX1_follow 71 = .ok (.iadd, 1) := by decide +kernel
theorem dX1_follow_72 : decode cX1_follow 72 = .ok (.iaload, 1) := by decide +kernel
theorem dX1_follow_73 : decode cX1_follow 73 = .ok (.istore 5, 2) := by decide +kernel
theorem dX1_follow_75 : decode cX1_follow 75 = .ok (.iinc 6 1, 3) := by decide +kernel
theorem dX1_follow_78 : decode cX1_follow 78 = .ok (.goto (-40), 3) := by decide +kernel
theorem dX1_follow_81 : decode cX1_follow 81 = .ok (.iload 5, 2) := by decide +kernel
theorem dX1_follow_83 : decode cX1_follow 83 = .ok (.ireturn, 1) := by decide +kernel
theorem dX1_snapshot_0 : decode cX1_snapshot 0 = .ok (.aload_n 0, 1) := by decide +kernel
theorem dX1_snapshot_1 : decode cX1_snapshot 1 = .ok (.getfield 41, 3) := by decide +kernel
theorem dX1_snapshot_4 : decode cX1_snapshot 4 = .ok (.ifCond .eq 5, 3) := by decide +kernel
theorem dX1_snapshot_7 : decode cX1_snapshot 7 = .ok (.iconst (-1), 1) := by decide +kernel
theorem dX1_snapshot_8 : decode cX1_snapshot 8 = .ok (.ireturn, 1) := by decide +kernel
theorem dX1_snapshot_9 : decode cX1_snapshot 9 = .ok (.aload_n 0, 1) := by decide +kernel
theorem dX1_snapshot_10 : decode cX1_snapshot 10 = .ok (.iconst 1, 1) := by decide +kernel
theorem dX1_snapshot_11 : decode cX1_snapshot 11 = .ok (.putfield 41, 3) := by decide +kernel
theorem dX1_snapshot_14 : decode cX1_snapshot 14 = .ok (.iconst 0, 1) := by decide +kernel
theorem dX1_snapshot_15 : decode cX1_snapshot 15 = .ok (.istore_n 1, 1) := by decide +kernel
theorem dX1_snapshot_16 : decode cX1_snapshot 16 = .ok (.iload_n 1, 1) := by decide +kernel
theorem dX1_snapshot_17 : decode cX1_snapshot 17 = .ok (.bipush 64, 2) := by decide +kernel
theorem dX1_snapshot_19 : decode cX1_snapshot 19 = .ok (.if_icmp .ge 33, 3) := by decide +kernel
theorem dX1_snapshot_22 : decode cX1_snapshot 22 = .ok (.aload_n 0, 1) := by decide +kernel
theorem dX1_snapshot_23 : decode cX1_snapshot 23 = .ok (.getfield 17, 3) := by decide +kernel
theorem dX1_snapshot_26 : decode cX1_snapshot 26 = .ok (.iload_n 1, 1) := by decide +kernel
theorem dX1_snapshot_27 : decode cX1_snapshot 27 = .ok (.aload_n 0, 1) := by decide +kernel
theorem dX1_snapshot_28 : decode cX1_snapshot 28 = .ok (.getfield 7, 3) := by decide +kernel
theorem dX1_snapshot_31 : decode cX1_snapshot 31 = .ok (.iload_n 1, 1) := by decide +kernel
theorem dX1_snapshot_32 : decode cX1_snapshot 32 = .ok (.baload, 1) := by decide +kernel
theorem dX1_snapshot_33 : decode cX1_snapshot 33 = .ok (.bastore, 1) := by decide +kernel
theorem dX1_snapshot_34 : decode cX1_snapshot 34 = .ok (.aload_n 0, 1) := by decide +kernel
theorem dX1_snapshot_35 : decode cX1_snapshot 35 = .ok (.getfield 20, 3) := by decide +kernel
theorem dX1_snapshot_38 : decode cX1_snapshot 38 = .ok (.iload_n 1, 1) := by decide +kernel
theorem dX1_snapshot_39 : decode cX1_snapshot 39 = .ok (.aload_n 0, 1) := by decide +kernel
theorem dX1_snapshot_40 : decode cX1_snapshot 40 = .ok (.getfield 13, 3) := by decide +kernel
theorem dX1_snapshot_43 : decode cX1_snapshot 43 = .ok (.iload_n 1, 1) := by decide +kernel
theorem dX1_snapshot_44 : decode cX1_snapshot 44 = .ok (.iaload, 1) := by decide +kernel
theorem dX1_snapshot_45 : decode cX1_snapshot 45 = .ok (.iastore, 1) := by decide +kernel
theorem dX1_snapshot_46 : decode cX1_snapshot 46 = .ok (.iinc 1 1, 3) := by decide +kernel
theorem dX1_snapshot_49 : decode cX1_snapshot 49 = .ok (.goto (-33), 3) := by decide +kernel
theorem dX1_snapshot_52 : decode cX1_snapshot 52 = .ok (.iconst 0, 1) := by decide +kernel
theorem dX1_snapshot_53 : decode cX1_snapshot 53 = .ok (.ireturn, 1) := by decide +kernel
theorem dX1_settle_0 : decode cX1_settle 0 = .ok (.aload_n 0, 1) := by decide +kernel
theorem dX1_settle_1 : decode cX1_settle 1 = .ok (.getfield 41, 3) := by decide +kernel
theorem dX1_settle_4 : decode cX1_settle 4 = .ok (.ifCond .ne 5, 3) := by decide +kernel
theorem dX1_settle_7 : decode cX1_settle 7 = .ok (.iconst (-1), 1) := by decide +kernel
theorem dX1_settle_8 : decode cX1_settle 8 = .ok (.ireturn, 1) := by decide +kernel
theorem dX1_settle_9 : decode cX1_settle 9 = .ok (.aload_n 0, 1) := by decide +kernel
theorem dX1_settle_10 : decode cX1_settle 10 = .ok (.iconst 0, 1) := by decide +kernel
theorem dX1_settle_11 : decode cX1_settle 11 = .ok (.putfield 41, 3) := by decide +kernel
theorem dX1_settle_14 : decode cX1_settle 14 = .ok (.iconst 0, 1) := by decide +kernel
theorem dX1_settle_15 : decode cX1_settle 15 = .ok (.istore_n 1, 1) := by decide +kernel
theorem dX1_settle_16 : decode cX1_settle 16 = .ok (.iload_n 1, 1) := by decide +kernel
theorem dX1_settle_17 : decode cX1_settle 17 = .ok (.bipush 64, 2) := by decide +kernel
theorem dX1_settle_19 : decode cX1_settle 19 = .ok (.if_icmp .ge 33, 3) := by decide +kernel
theorem dX1_settle_22 : decode cX1_settle 22 = .ok (.aload_n 0, 1) := by decide +kernel
theorem dX1_settle_23 : decode cX1_settle 23 = .ok (.getfield 23, 3) := by decide +kernel
theorem dX1_settle_26 : decode cX1_settle 26 = .ok (.iload_n 1, 1) := by decide +kernel
theorem dX1_settle_27 : decode cX1_settle 27 = .ok (.aload_n 0, 1) := by decide +kernel
theorem dX1_settle_28 : decode cX1_settle 28 = .ok (.getfield 17, 3) := by decide +kernel
theorem dX1_settle_31 : decode cX1_settle 31 = .ok (.iload_n 1, 1) := by decide +kernel
theorem dX1_settle_32 : decode cX1_settle 32 = .ok (.baload, 1) := by decide +kernel
theorem dX1_settle_33 : decode cX1_settle 33 = .ok (.bastore, 1) := by decide +kernel
theorem dX1_settle_34 : decode cX1_settle 34 = .ok (.aload_n 0, 1) := by decide +kernel
theorem dX1_settle_35 : decode cX1_settle 35 = .ok (.getfield 26, 3) := by decide +kernel
theorem dX1_settle_38 : decode cX1_settle 38 = .ok (.iload_n 1, 1) := by decide +kernel
theorem dX1_settle_39 : decode cX1_settle 39 = .ok (.aload_n 0, 1) := by decide +kernel
theorem dX1_settle_40 : decode cX1_settle 40 = .ok (.getfield 20, 3) := by decide +kernel
theorem dX1_settle_43 : decode cX1_settle 43 = .ok (.iload_n 1, 1) := by decide +kernel
theorem dX1_settle_44 : decode cX1_settle 44 = .ok (.iaload, 1) := by decide +kernel
theorem dX1_settle_45 : decode cX1_settle 45 = .ok (.iastore, 1) := by decide +kernel
theorem dX1_settle_46 : decode cX1_settle 46 = .ok (.iinc 1 1, 3) := by decide +kernel
theorem dX1_settle_49 : decode cX1_settle 49 = .ok (.goto (-33), 3) := by decide +kernel
theorem dX1_settle_52 : decode cX1_settle 52 = .ok (.iconst 0, 1) := by decide +kernel
theorem dX1_settle_53 : decode cX1_settle 53 = .ok (.ireturn, 1) := by decide +kernel
theorem dX1_crash_0 : decode cX1_crash 0 = .ok (.aload_n 0, 1) := by decide +kernel
theorem dX1_crash_1 : decode cX1_crash 1 = .ok (.iconst 0, 1) := by decide +kernel
theorem dX1_crash_2 : decode cX1_crash 2 = .ok (.putfield 41, 3) := by decide +kernel
theorem dX1_crash_5 : decode cX1_crash 5 = .ok (.iconst 0, 1) := by decide +kernel
theorem dX1_crash_6 : decode cX1_crash 6 = .ok (.istore_n 1, 1) := by decide +kernel
theorem dX1_crash_7 : decode cX1_crash 7 = .ok (.iload_n 1, 1) := by decide +kernel
theorem dX1_crash_8 : decode cX1_crash 8 = .ok (.bipush 64, 2) := by decide +kernel
theorem dX1_crash_10 : decode cX1_crash 10 = .ok (.if_icmp .ge 26, 3) := by decide +kernel
theorem dX1_crash_13 : decode cX1_crash 13 = .ok (.aload_n 0, 1) := by decide +kernel
theorem dX1_crash_14 : decode cX1_crash 14 = .ok (.iload_n 1, 1) := by decide +kernel
theorem dX1_crash_15 : decode cX1_crash 15 = .ok (.aload_n 0, 1) := by decide +kernel
theorem dX1_crash_16 : decode cX1_crash 16 = .ok (.getfield 23, 3) := by decide +kernel
theorem dX1_crash_19 : decode cX1_crash 19 = .ok (.iload_n 1, 1) := by decide +kernel
theorem dX1_crash_20 : decode cX1_crash 20 = .ok (.baload, 1) := by decide +kernel
theorem dX1_crash_21 : decode cX1_crash 21 = .ok (.aload_n 0, 1) := by decide +kernel
theorem dX1_crash_22 : decode cX1_crash 22 = .ok (.getfield 26, 3) := by decide +kernel
theorem dX1_crash_25 : decode cX1_crash 25 = .ok (.iload_n 1, 1) := by decide +kernel
theorem dX1_crash_26 : decode cX1_crash 26 = .ok (.iaload, 1) := by decide +kernel
theorem dX1_crash_27 : decode cX1_crash 27 = .ok (.invokevirtual 37, 3) := by decide +kernel
theorem dX1_crash_30 : decode cX1_crash 30 = .ok (.iinc 1 1, 3) := by decide +kernel
theorem dX1_crash_33 : decode cX1_crash 33 = .ok (.goto (-26), 3) := by decide +kernel
theorem dX1_crash_36 : decode cX1_crash 36 = .ok (.return_, 1) := by decide +kernel
theorem dX1_idle_0 : decode cX1_idle 0 = .ok (.return_, 1) := by decide +kernel
theorem dX1_keysTo_0 : decode cX1_keysTo 0 = .ok (.iload_n 1, 1) := by decide +kernel
theorem dX1_keysTo_1 : decode cX1_keysTo 1 = .ok (.invokestatic 29, 3) := by decide +kernel
theorem dX1_keysTo_4 : decode cX1_keysTo 4 = .ok (.ifCond .eq 5, 3) := by decide +kernel
theorem dX1_keysTo_7 : decode cX1_keysTo 7 = .ok (.iconst (-1), 1) := by decide +kernel
theorem dX1_keysTo_8 : decode cX1_keysTo 8 = .ok (.ireturn, 1) := by decide +kernel
theorem dX1_keysTo_9 : decode cX1_keysTo 9 = .ok (.iconst 0, 1) := by decide +kernel
theorem dX1_keysTo_10 : decode cX1_keysTo 10 = .ok (.istore_n 2, 1) := by decide +kernel
theorem dX1_keysTo_11 : decode cX1_keysTo 11 = .ok (.iconst 0, 1) := by decide +kernel
theorem dX1_keysTo_12 : decode cX1_keysTo 12 = .ok (.istore_n 3, 1) := by decide +kernel
theorem dX1_keysTo_13 : decode cX1_keysTo 13 = .ok (.iload_n 3, 1) := by decide +kernel
theorem dX1_keysTo_14 : decode cX1_keysTo 14 = .ok (.bipush 64, 2) := by decide +kernel
theorem dX1_keysTo_16 : decode cX1_keysTo 16 = .ok (.if_icmp .ge 31, 3) := by decide +kernel
theorem dX1_keysTo_19 : decode cX1_keysTo 19 = .ok (.aload_n 0, 1) := by decide +kernel
theorem dX1_keysTo_20 : decode cX1_keysTo 20 = .ok (.getfield 7, 3) := by decide +kernel
theorem dX1_keysTo_23 : decode cX1_keysTo 23 = .ok (.iload_n 3, 1) := by decide +kernel
theorem dX1_keysTo_24 : decode cX1_keysTo 24 = .ok (.baload, 1) := by decide +kernel
theorem dX1_keysTo_25 : decode cX1_keysTo 25 = .ok (.ifCond .eq 16, 3) := by decide +kernel
theorem dX1_keysTo_28 : decode cX1_keysTo 28 = .ok (.aload_n 0, 1) := by decide +kernel
theorem dX1_keysTo_29 : decode cX1_keysTo 29 = .ok (.getfield 13, 3) := by decide +kernel
theorem dX1_keysTo_32 : decode cX1_keysTo 32 = .ok (.iload_n 3, 1) := by decide +kernel
theorem dX1_keysTo_33 : decode cX1_keysTo 33 = .ok (.iaload, 1) := by decide +kernel
theorem dX1_keysTo_34 : decode cX1_keysTo 34 = .ok (.iload_n 1, 1) := by decide +kernel
theorem dX1_keysTo_35 : decode cX1_keysTo 35 = .ok (.if_icmp .ne 6, 3) := by decide +kernel
theorem dX1_keysTo_38 : decode cX1_keysTo 38 = .ok (.iinc 2 1, 3) := by decide +kernel
theorem dX1_keysTo_41 : decode cX1_keysTo 41 = .ok (.iinc 3 1, 3) := by decide +kernel
theorem dX1_keysTo_44 : decode cX1_keysTo 44 = .ok (.goto (-31), 3) := by decide +kernel
theorem dX1_keysTo_47 : decode cX1_keysTo 47 = .ok (.iload_n 2, 1) := by decide +kernel
theorem dX1_keysTo_48 : decode cX1_keysTo 48 = .ok (.ireturn, 1) := by decide +kernel
end
section
set_option maxRecDepth 100000
theorem dL_law_0 : decode cL_law 0 = .ok (.new 7, 3) := by decide +kernel
theorem dL_law_3 : decode cL_law 3 = .ok (.dup, 1) := by decide +kernel
theorem dL_law_4 : decode cL_law 4 = .ok (.invokespecial 9, 3) := by decide +kernel
theorem dL_law_7 : decode cL_law 7 = .ok (.astore_n 1, 1) := by decide +kernel
theorem dL_law_8 : decode cL_law 8 = .ok (.new 10, 3) := by decide +kernel
theorem dL_law_11 : decode cL_law 11 = .ok (.dup, 1) := by decide +kernel
theorem dL_law_12 : decode cL_law 12 = .ok (.invokespecial 12, 3) := by decide +kernel
theorem dL_law_15 : decode cL_law 15 = .ok (.astore_n 2, 1) := by decide +kernel
theorem dL_law_16 : decode cL_law 16 = .ok (.iconst 0, 1) := by decide +kernel
theorem dL_law_17 : decode cL_law 17 = .ok (.istore_n 3, 1) := by decide +kernel
theorem dL_law_18 : decode cL_law 18 = .ok (.iload_n 3, 1) := by decide +kernel
theorem dL_law_19 : decode cL_law 19 = .ok (.aload_n 0, 1) := by decide +kernel
theorem dL_law_20 : decode cL_law 20 = .ok (.arraylength, 1) := by decide +kernel
theorem dL_law_21 : decode cL_law 21 = .ok (.iconst 5, 1) := by decide +kernel
theorem dL_law_22 : decode cL_law 22 = .ok (.isub, 1) := by decide +kernel
theorem dL_law_23 : decode cL_law 23 = .ok (.if_icmp .gt 431, 3) := by decide +kernel
theorem dL_law_26 : decode cL_law 26 = .ok (.aload_n 0, 1) := by decide +kernel
theorem dL_law_27 : decode cL_law 27 = .ok (.iload_n 3, 1) := by decide +kernel
theorem dL_law_28 : decode cL_law 28 = .ok (.iaload, 1) := by decide +kernel
theorem dL_law_29 : decode cL_law 29 = .ok (.bipush 15, 2) := by decide +kernel
theorem dL_law_31 : decode cL_law 31 = .ok (.iand, 1) := by decide +kernel
theorem dL_law_32 : decode cL_law 32 = .ok (.tableswitch 416 0 11 #[64, 107, 150, 203, 226, 259, 292, 335, 348, 361, 372, 393], 64) := by decide +kernel
theorem dL_law_96 : decode cL_law 96 = .ok (.aload_n 1, 1) := by decide +kernel
theorem dL_law_97 : decode cL_law 97 = .ok (.aload_n 0, 1) := by decide +kernel
theorem dL_law_98 : decode cL_law 98 = .ok (.iload_n 3, 1) := by decide +kernel
theorem dL_law_99 : decode cL_law 99 = .ok (.iconst 1, 1) := by decide +kernel
theorem dL_law_100 : decode cL_law 100 = .ok (.iadd, 1) := by decide +kernel
theorem dL_law_101 : decode cL_law 101 = .ok (.iaload, 1) := by decide +kernel
theorem dL_law_102 : decode cL_law 102 = .ok (.aload_n 0, 1) := by decide +kernel
theorem dL_law_103 : decode cL_law 103 = .ok (.iload_n 3, 1) := by decide +kernel
theorem dL_law_104 : decode cL_law 104 = .ok (.iconst 2, 1) := by decide +kernel
theorem dL_law_105 : decode cL_law 105 = .ok (.iadd, 1) := by decide +kernel
theorem dL_law_106 : decode cL_law 106 = .ok (.iaload, 1) := by decide +kernel
theorem dL_law_107 : decode cL_law 107 = .ok (.aload_n 0, 1) := by decide +kernel
theorem dL_law_108 : decode cL_law 108 = .ok (.iload_n 3, 1) := by decide +kernel
theorem dL_law_109 : decode cL_law 109 = .ok (.iconst 3, 1) := by decide +kernel
theorem dL_law_110 : decode cL_law 110 = .ok (.iadd, 1) := by decide +kernel
theorem dL_law_111 : decode cL_law 111 = .ok (.iaload, 1) := by decide +kernel
theorem dL_law_112 : decode cL_law 112 = .ok (.invokevirtual 13, 3) := by decide +kernel
theorem dL_law_115 : decode cL_law 115 = .ok (.aload_n 2, 1) := by decide +kernel
theorem dL_law_116 : decode cL_law 116 = .ok (.aload_n 0, 1) := by decide +kernel
theorem dL_law_117 : decode cL_law 117 = .ok (.iload_n 3, 1) := by decide +kernel
theorem dL_law_118 : decode cL_law 118 = .ok (.iconst 1, 1) := by decide +kernel
theorem dL_law_119 : decode cL_law 119 = .ok (.iadd, 1) := by decide +kernel
theorem dL_law_120 : decode cL_law 120 = .ok (.iaload, 1) := by decide +kernel
theorem dL_law_121 : decode cL_law 121 = .ok (.aload_n 0, 1) := by decide +kernel
theorem dL_law_122 : decode cL_law 122 = .ok (.iload_n 3, 1) := by decide +kernel
theorem dL_law_123 : decode cL_law 123 = .ok (.iconst 2, 1) := by decide +kernel
theorem dL_law_124 : decode cL_law 124 = .ok (.iadd, 1) := by decide +kernel
theorem dL_law_125 : decode cL_law 125 = .ok (.iaload, 1) := by decide +kernel
theorem dL_law_126 : decode cL_law 126 = .ok (.aload_n 0, 1) := by decide +kernel
theorem dL_law_127 : decode cL_law 127 = .ok (.iload_n 3, 1) := by decide +kernel
theorem dL_law_128 : decode cL_law 128 = .ok (.iconst 3, 1) := by decide +kernel
theorem dL_law_129 : decode cL_law 129 = .ok (.iadd, 1) := by decide +kernel
theorem dL_law_130 : decode cL_law 130 = .ok (.iaload, 1) := by decide +kernel
theorem dL_law_131 : decode cL_law 131 = .ok (.invokevirtual 17, 3) := by decide +kernel
theorem dL_law_134 : decode cL_law 134 = .ok (.if_icmp .eq 314, 3) := by decide +kernel
theorem dL_law_137 : decode cL_law 137 = .ok (.iconst 0, 1) := by decide +kernel
theorem dL_law_138 : decode cL_law 138 = .ok (.ireturn, 1) := by decide +kernel
theorem dL_law_139 : decode cL_law 139 = .ok (.aload_n 1, 1) := by decide +kernel
theorem dL_law_140 : decode cL_law 140 = .ok (.aload_n 0, 1) := by decide +kernel
theorem dL_law_141 : decode cL_law 141 = .ok (.iload_n 3, 1) := by decide +kernel
theorem dL_law_142 : decode cL_law 142 = .ok (.iconst 1, 1) := by decide +kernel
theorem dL_law_143 : decode cL_law 143 = .ok (.iadd, 1) := by decide +kernel
theorem dL_law_144 : decode cL_law 144 = .ok (.iaload, 1) := by decide +kernel
theorem dL_law_145 : decode cL_law 145 = .ok (.aload_n 0, 1) := by decide +kernel
theorem dL_law_146 : decode cL_law 146 = .ok (.iload_n 3, 1) := by decide +kernel
theorem dL_law_147 : decode cL_law 147 = .ok (.iconst 2, 1) := by decide +kernel
theorem dL_law_148 : decode cL_law 148 = .ok (.iadd, 1) := by decide +kernel
theorem dL_law_149 : decode cL_law 149 = .ok (.iaload, 1) := by decide +kernel
theorem dL_law_150 : decode cL_law 150 = .ok (.aload_n 0, 1) := by decide +kernel
theorem dL_law_151 : decode cL_law 151 = .ok (.iload_n 3, 1) := by decide +kernel
theorem dL_law_152 : decode cL_law 152 = .ok (.iconst 3, 1) := by decide +kernel
theorem dL_law_153 : decode cL_law 153 = .ok (.iadd, 1) := by decide +kernel
theorem dL_law_154 : decode cL_law 154 = .ok (.iaload, 1) := by decide +kernel
theorem dL_law_155 : decode cL_law 155 = .ok (.invokevirtual 18, 3) := by decide +kernel
theorem dL_law_158 : decode cL_law 158 = .ok (.aload_n 2, 1) := by decide +kernel
theorem dL_law_159 : decode cL_law 159 = .ok (.aload_n 0, 1) := by decide +kernel
theorem dL_law_160 : decode cL_law 160 = .ok (.iload_n 3, 1) := by decide +kernel
theorem dL_law_161 : decode cL_law 161 = .ok (.iconst 1, 1) := by decide +kernel
theorem dL_law_162 : decode cL_law 162 = .ok (.iadd, 1) := by decide +kernel
theorem dL_law_163 : decode cL_law 163 = .ok (.iaload, 1) := by decide +kernel
theorem dL_law_164 : decode cL_law 164 = .ok (.aload_n 0, 1) := by decide +kernel
theorem dL_law_165 : decode cL_law 165 = .ok (.iload_n 3, 1) := by decide +kernel
theorem dL_law_166 : decode cL_law 166 = .ok (.iconst 2, 1) := by decide +kernel
theorem dL_law_167 : decode cL_law 167 = .ok (.iadd, 1) := by decide +kernel
theorem dL_law_168 : decode cL_law 168 = .ok (.iaload, 1) := by decide +kernel
theorem dL_law_169 : decode cL_law 169 = .ok (.aload_n 0, 1) := by decide +kernel
theorem dL_law_170 : decode cL_law 170 = .ok (.iload_n 3, 1) := by decide +kernel
theorem dL_law_171 : decode cL_law 171 = .ok (.iconst 3, 1) := by decide +kernel
theorem dL_law_172 : decode cL_law 172 = .ok (.iadd, 1) := by decide +kernel
theorem dL_law_173 : decode cL_law 173 = .ok (.iaload, 1) := by decide +kernel
theorem dL_law_174 : decode cL_law 174 = .ok (.invokevirtual 21, 3) := by decide +kernel
theorem dL_law_177 : decode cL_law 177 = .ok (.if_icmp .eq 271, 3) := by decide +kernel
theorem dL_law_180 : decode cL_law 180 = .ok (.iconst 0, 1) := by decide +kernel
theorem dL_law_181 : decode cL_law 181 = .ok (.ireturn, 1) := by decide +kernel
theorem dL_law_182 : decode cL_law 182 = .ok (.aload_n 1, 1) := by decide +kernel
theorem dL_law_183 : decode cL_law 183 = .ok (.aload_n 0, 1) := by decide +kernel
theorem dL_law_184 : decode cL_law 184 = .ok (.iload_n 3, 1) := by decide +kernel
theorem dL_law_185 : decode cL_law 185 = .ok (.iconst 1, 1) := by decide +kernel
theorem dL_law_186 : decode cL_law 186 = .ok (.iadd, 1) := by decide +kernel
theorem dL_law_187 : decode cL_law 187 = .ok (.iaload, 1) := by decide +kernel
theorem dL_law_188 : decode cL_law 188 = .ok (.aload_n 0, 1) := by decide +kernel
theorem dL_law_189 : decode cL_law 189 = .ok (.iload_n 3, 1) := by decide +kernel
theorem dL_law_190 : decode cL_law 190 = .ok (.iconst 2, 1) := by decide +kernel
theorem dL_law_191 : decode cL_law 191 = .ok (.iadd, 1) := by decide +kernel
theorem dL_law_192 : decode cL_law 192 = .ok (.iaload, 1) := by decide +kernel
theorem dL_law_193 : decode cL_law 193 = .ok (.aload_n 0, 1) := by decide +kernel
theorem dL_law_194 : decode cL_law 194 = .ok (.iload_n 3, 1) := by decide +kernel
theorem dL_law_195 : decode cL_law 195 = .ok (.iconst 3, 1) := by decide +kernel
theorem dL_law_196 : decode cL_law 196 = .ok (.iadd, 1) := by decide +kernel
theorem dL_law_197 : decode cL_law 197 = .ok (.iaload, 1) := by decide +kernel
theorem dL_law_198 : decode cL_law 198 = .ok (.aload_n 0, 1) := by decide +kernel
theorem dL_law_199 : decode cL_law 199 = .ok (.iload_n 3, 1) := by decide +kernel
theorem dL_law_200 : decode cL_law 200 = .ok (.iconst 4, 1) := by decide +kernel
theorem dL_law_201 : decode cL_law 201 = .ok (.iadd, 1) := by decide +kernel
theorem dL_law_202 : decode cL_law 202 = .ok (.iaload, 1) := by decide +kernel
theorem dL_law_203 : decode cL_law 203 = .ok (.invokevirtual 22, 3) := by decide +kernel
theorem dL_law_206 : decode cL_law 206 = .ok (.aload_n 2, 1) := by decide +kernel
theorem dL_law_207 : decode cL_law 207 = .ok (.aload_n 0, 1) := by decide +kernel
theorem dL_law_208 : decode cL_law 208 = .ok (.iload_n 3, 1) := by decide +kernel
theorem dL_law_209 : decode cL_law 209 = .ok (.iconst 1, 1) := by decide +kernel
theorem dL_law_210 : decode cL_law 210 = .ok (.iadd, 1) := by decide +kernel
theorem dL_law_211 : decode cL_law 211 = .ok (.iaload, 1) := by decide +kernel
theorem dL_law_212 : decode cL_law 212 = .ok (.aload_n 0, 1) := by decide +kernel
theorem dL_law_213 : decode cL_law 213 = .ok (.iload_n 3, 1) := by decide +kernel
theorem dL_law_214 : decode cL_law 214 = .ok (.iconst 2, 1) := by decide +kernel
theorem dL_law_215 : decode cL_law 215 = .ok (.iadd, 1) := by decide +kernel
theorem dL_law_216 : decode cL_law 216 = .ok (.iaload, 1) := by decide +kernel
theorem dL_law_217 : decode cL_law 217 = .ok (.aload_n 0, 1) := by decide +kernel
theorem dL_law_218 : decode cL_law 218 = .ok (.iload_n 3, 1) := by decide +kernel
theorem dL_law_219 : decode cL_law 219 = .ok (.iconst 3, 1) := by decide +kernel
theorem dL_law_220 : decode cL_law 220 = .ok (.iadd, 1) := by decide +kernel
theorem dL_law_221 : decode cL_law 221 = .ok (.iaload, 1) := by decide +kernel
theorem dL_law_222 : decode cL_law 222 = .ok (.aload_n 0, 1) := by decide +kernel
theorem dL_law_223 : decode cL_law 223 = .ok (.iload_n 3, 1) := by decide +kernel
theorem dL_law_224 : decode cL_law 224 = .ok (.iconst 4, 1) := by decide +kernel
theorem dL_law_225 : decode cL_law 225 = .ok (.iadd, 1) := by decide +kernel
theorem dL_law_226 : decode cL_law 226 = .ok (.iaload, 1) := by decide +kernel
theorem dL_law_227 : decode cL_law 227 = .ok (.invokevirtual 26, 3) := by decide +kernel
theorem dL_law_230 : decode cL_law 230 = .ok (.if_icmp .eq 218, 3) := by decide +kernel
theorem dL_law_233 : decode cL_law 233 = .ok (.iconst 0, 1) := by decide +kernel
theorem dL_law_234 : decode cL_law 234 = .ok (.ireturn, 1) := by decide +kernel
theorem dL_law_235 : decode cL_law 235 = .ok (.aload_n 1, 1) := by decide +kernel
theorem dL_law_236 : decode cL_law 236 = .ok (.aload_n 0, 1) := by decide +kernel
theorem dL_law_237 : decode cL_law 237 = .ok (.iload_n 3, 1) := by decide +kernel
theorem dL_law_238 : decode cL_law 238 = .ok (.iconst 1, 1) := by decide +kernel
theorem dL_law_239 : decode cL_law 239 = .ok (.iadd, 1) := by decide +kernel
theorem dL_law_240 : decode cL_law 240 = .ok (.iaload, 1) := by decide +kernel
theorem dL_law_241 : decode cL_law 241 = .ok (.invokevirtual 27, 3) := by decide +kernel
theorem dL_law_244 : decode cL_law 244 = .ok (.aload_n 2, 1) := by decide +kernel
theorem dL_law_245 : decode cL_law 245 = .ok (.aload_n 0, 1) := by decide +kernel
theorem dL_law_246 : decode cL_law 246 = .ok (.iload_n 3, 1) := by decide +kernel
theorem dL_law_247 : decode cL_law 247 = .ok (.iconst 1, 1) := by decide +kernel
theorem dL_law_248 : decode cL_law 248 = .ok (.iadd, 1) := by decide +kernel
theorem dL_law_249 : decode cL_law 249 = .ok (.iaload, 1) := by decide +kernel
theorem dL_law_250 : decode cL_law 250 = .ok (.invokevirtual 31, 3) := by decide +kernel
theorem dL_law_253 : decode cL_law 253 = .ok (.if_icmp .eq 195, 3) := by decide +kernel
theorem dL_law_256 : decode cL_law 256 = .ok (.iconst 0, 1) := by decide +kernel
theorem dL_law_257 : decode cL_law 257 = .ok (.ireturn, 1) := by decide +kernel
theorem dL_law_258 : decode cL_law 258 = .ok (.aload_n 1, 1) := by decide +kernel
theorem dL_law_259 : decode cL_law 259 = .ok (.aload_n 0, 1) := by decide +kernel
theorem dL_law_260 : decode cL_law 260 = .ok (.iload_n 3, 1) := by decide +kernel
theorem dL_law_261 : decode cL_law 261 = .ok (.iconst 1, 1) := by decide +kernel
theorem dL_law_262 : decode cL_law 262 = .ok (.iadd, 1) := by decide +kernel
theorem dL_law_263 : decode cL_law 263 = .ok (.iaload, 1) := by decide +kernel
theorem dL_law_264 : decode cL_law 264 = .ok (.aload_n 0, 1) := by decide +kernel
theorem dL_law_265 : decode cL_law 265 = .ok (.iload_n 3, 1) := by decide +kernel
theorem dL_law_266 : decode cL_law 266 = .ok (.iconst 2, 1) := by decide +kernel
theorem dL_law_267 : decode cL_law 267 = .ok (.iadd, 1) := by decide +kernel
theorem dL_law_268 : decode cL_law 268 = .ok (.iaload, 1) := by decide +kernel
theorem dL_law_269 : decode cL_law 269 = .ok (.invokevirtual 32, 3) := by decide +kernel
theorem dL_law_272 : decode cL_law 272 = .ok (.aload_n 2, 1) := by decide +kernel
theorem dL_law_273 : decode cL_law 273 = .ok (.aload_n 0, 1) := by decide +kernel
theorem dL_law_274 : decode cL_law 274 = .ok (.iload_n 3, 1) := by decide +kernel
theorem dL_law_275 : decode cL_law 275 = .ok (.iconst 1, 1) := by decide +kernel
theorem dL_law_276 : decode cL_law 276 = .ok (.iadd, 1) := by decide +kernel
theorem dL_law_277 : decode cL_law 277 = .ok (.iaload, 1) := by decide +kernel
theorem dL_law_278 : decode cL_law 278 = .ok (.aload_n 0, 1) := by decide +kernel
theorem dL_law_279 : decode cL_law 279 = .ok (.iload_n 3, 1) := by decide +kernel
theorem dL_law_280 : decode cL_law 280 = .ok (.iconst 2, 1) := by decide +kernel
theorem dL_law_281 : decode cL_law 281 = .ok (.iadd, 1) := by decide +kernel
theorem dL_law_282 : decode cL_law 282 = .ok (.iaload, 1) := by decide +kernel
theorem dL_law_283 : decode cL_law 283 = .ok (.invokevirtual 36, 3) := by decide +kernel
theorem dL_law_286 : decode cL_law 286 = .ok (.if_icmp .eq 162, 3) := by decide +kernel
theorem dL_law_289 : decode cL_law 289 = .ok (.iconst 0, 1) := by decide +kernel
theorem dL_law_290 : decode cL_law 290 = .ok (.ireturn, 1) := by decide +kernel
theorem dL_law_291 : decode cL_law 291 = .ok (.aload_n 1, 1) := by decide +kernel
theorem dL_law_292 : decode cL_law 292 = .ok (.aload_n 0, 1) := by decide +kernel
theorem dL_law_293 : decode cL_law 293 = .ok (.iload_n 3, 1) := by decide +kernel
theorem dL_law_294 : decode cL_law 294 = .ok (.iconst 1, 1) := by decide +kernel
theorem dL_law_295 : decode cL_law 295 = .ok (.iadd, 1) := by decide +kernel
theorem dL_law_296 : decode cL_law 296 = .ok (.iaload, 1) := by decide +kernel
theorem dL_law_297 : decode cL_law 297 = .ok (.aload_n 0, 1) := by decide +kernel
theorem dL_law_298 : decode cL_law 298 = .ok (.iload_n 3, 1) := by decide +kernel
theorem dL_law_299 : decode cL_law 299 = .ok (.iconst 2, 1) := by decide +kernel
theorem dL_law_300 : decode cL_law 300 = .ok (.iadd, 1) := by decide +kernel
theorem dL_law_301 : decode cL_law 301 = .ok (.iaload, 1) := by decide +kernel
theorem dL_law_302 : decode cL_law 302 = .ok (.invokevirtual 37, 3) := by decide +kernel
theorem dL_law_305 : decode cL_law 305 = .ok (.aload_n 2, 1) := by decide +kernel
theorem dL_law_306 : decode cL_law 306 = .ok (.aload_n 0, 1) := by decide +kernel
theorem dL_law_307 : decode cL_law 307 = .ok (.iload_n 3, 1) := by decide +kernel
theorem dL_law_308 : decode cL_law 308 = .ok (.iconst 1, 1) := by decide +kernel
theorem dL_law_309 : decode cL_law 309 = .ok (.iadd, 1) := by decide +kernel
theorem dL_law_310 : decode cL_law 310 = .ok (.iaload, 1) := by decide +kernel
theorem dL_law_311 : decode cL_law 311 = .ok (.aload_n 0, 1) := by decide +kernel
theorem dL_law_312 : decode cL_law 312 = .ok (.iload_n 3, 1) := by decide +kernel
theorem dL_law_313 : decode cL_law 313 = .ok (.iconst 2, 1) := by decide +kernel
theorem dL_law_314 : decode cL_law 314 = .ok (.iadd, 1) := by decide +kernel
theorem dL_law_315 : decode cL_law 315 = .ok (.iaload, 1) := by decide +kernel
theorem dL_law_316 : decode cL_law 316 = .ok (.invokevirtual 40, 3) := by decide +kernel
theorem dL_law_319 : decode cL_law 319 = .ok (.if_icmp .eq 129, 3) := by decide +kernel
theorem dL_law_322 : decode cL_law 322 = .ok (.iconst 0, 1) := by decide +kernel
theorem dL_law_323 : decode cL_law 323 = .ok (.ireturn, 1) := by decide +kernel
theorem dL_law_324 : decode cL_law 324 = .ok (.aload_n 1, 1) := by decide +kernel
theorem dL_law_325 : decode cL_law 325 = .ok (.aload_n 0, 1) := by decide +kernel
theorem dL_law_326 : decode cL_law 326 = .ok (.iload_n 3, 1) := by decide +kernel
theorem dL_law_327 : decode cL_law 327 = .ok (.iconst 1, 1) := by decide +kernel
theorem dL_law_328 : decode cL_law 328 = .ok (.iadd, 1) := by decide +kernel
theorem dL_law_329 : decode cL_law 329 = .ok (.iaload, 1) := by decide +kernel
theorem dL_law_330 : decode cL_law 330 = .ok (.aload_n 0, 1) := by decide +kernel
theorem dL_law_331 : decode cL_law 331 = .ok (.iload_n 3, 1) := by decide +kernel
theorem dL_law_332 : decode cL_law 332 = .ok (.iconst 2, 1) := by decide +kernel
theorem dL_law_333 : decode cL_law 333 = .ok (.iadd, 1) := by decide +kernel
theorem dL_law_334 : decode cL_law 334 = .ok (.iaload, 1) := by decide +kernel
theorem dL_law_335 : decode cL_law 335 = .ok (.aload_n 0, 1) := by decide +kernel
theorem dL_law_336 : decode cL_law 336 = .ok (.iload_n 3, 1) := by decide +kernel
theorem dL_law_337 : decode cL_law 337 = .ok (.iconst 3, 1) := by decide +kernel
theorem dL_law_338 : decode cL_law 338 = .ok (.iadd, 1) := by decide +kernel
theorem dL_law_339 : decode cL_law 339 = .ok (.iaload, 1) := by decide +kernel
theorem dL_law_340 : decode cL_law 340 = .ok (.invokevirtual 41, 3) := by decide +kernel
theorem dL_law_343 : decode cL_law 343 = .ok (.aload_n 2, 1) := by decide +kernel
theorem dL_law_344 : decode cL_law 344 = .ok (.aload_n 0, 1) := by decide +kernel
theorem dL_law_345 : decode cL_law 345 = .ok (.iload_n 3, 1) := by decide +kernel
theorem dL_law_346 : decode cL_law 346 = .ok (.iconst 1, 1) := by decide +kernel
theorem dL_law_347 : decode cL_law 347 = .ok (.iadd, 1) := by decide +kernel
theorem dL_law_348 : decode cL_law 348 = .ok (.iaload, 1) := by decide +kernel
theorem dL_law_349 : decode cL_law 349 = .ok (.aload_n 0, 1) := by decide +kernel
theorem dL_law_350 : decode cL_law 350 = .ok (.iload_n 3, 1) := by decide +kernel
theorem dL_law_351 : decode cL_law 351 = .ok (.iconst 2, 1) := by decide +kernel
theorem dL_law_352 : decode cL_law 352 = .ok (.iadd, 1) := by decide +kernel
theorem dL_law_353 : decode cL_law 353 = .ok (.iaload, 1) := by decide +kernel
theorem dL_law_354 : decode cL_law 354 = .ok (.aload_n 0, 1) := by decide +kernel
theorem dL_law_355 : decode cL_law 355 = .ok (.iload_n 3, 1) := by decide +kernel
theorem dL_law_356 : decode cL_law 356 = .ok (.iconst 3, 1) := by decide +kernel
theorem dL_law_357 : decode cL_law 357 = .ok (.iadd, 1) := by decide +kernel
theorem dL_law_358 : decode cL_law 358 = .ok (.iaload, 1) := by decide +kernel
theorem dL_law_359 : decode cL_law 359 = .ok (.invokevirtual 44, 3) := by decide +kernel
theorem dL_law_362 : decode cL_law 362 = .ok (.if_icmp .eq 86, 3) := by decide +kernel
theorem dL_law_365 : decode cL_law 365 = .ok (.iconst 0, 1) := by decide +kernel
theorem dL_law_366 : decode cL_law 366 = .ok (.ireturn, 1) := by decide +kernel
theorem dL_law_367 : decode cL_law 367 = .ok (.aload_n 1, 1) := by decide +kernel
theorem dL_law_368 : decode cL_law 368 = .ok (.invokevirtual 45, 3) := by decide +kernel
theorem dL_law_371 : decode cL_law 371 = .ok (.aload_n 2, 1) := by decide +kernel
theorem dL_law_372 : decode cL_law 372 = .ok (.invokevirtual 49, 3) := by decide +kernel
theorem dL_law_375 : decode cL_law 375 = .ok (.if_icmp .eq 73, 3) := by decide +kernel
theorem dL_law_378 : decode cL_law 378 = .ok (.iconst 0, 1) := by decide +kernel
theorem dL_law_379 : decode cL_law 379 = .ok (.ireturn, 1) := by decide +kernel
theorem dL_law_380 : decode cL_law 380 = .ok (.aload_n 1, 1) := by decide +kernel
theorem dL_law_381 : decode cL_law 381 = .ok (.invokevirtual 50, 3) := by decide +kernel
theorem dL_law_384 : decode cL_law 384 = .ok (.aload_n 2, 1) := by decide +kernel
theorem dL_law_385 : decode cL_law 385 = .ok (.invokevirtual 53, 3) := by decide +kernel
theorem dL_law_388 : decode cL_law 388 = .ok (.if_icmp .eq 60, 3) := by decide +kernel
theorem dL_law_391 : decode cL_law 391 = .ok (.iconst 0, 1) := by decide +kernel
theorem dL_law_392 : decode cL_law 392 = .ok (.ireturn, 1) := by decide +kernel
theorem dL_law_393 : decode cL_law 393 = .ok (.aload_n 1, 1) := by decide +kernel
theorem dL_law_394 : decode cL_law 394 = .ok (.invokevirtual 54, 3) := by decide +kernel
theorem dL_law_397 : decode cL_law 397 = .ok (.aload_n 2, 1) := by decide +kernel
theorem dL_law_398 : decode cL_law 398 = .ok (.invokevirtual 57, 3) := by decide +kernel
theorem dL_law_401 : decode cL_law 401 = .ok (.goto 47, 3) := by decide +kernel
theorem dL_law_404 : decode cL_law 404 = .ok (.aload_n 1, 1) := by decide +kernel
theorem dL_law_405 : decode cL_law 405 = .ok (.aload_n 0, 1) := by decide +kernel
theorem dL_law_406 : decode cL_law 406 = .ok (.iload_n 3, 1) := by decide +kernel
theorem dL_law_407 : decode cL_law 407 = .ok (.iconst 1, 1) := by decide +kernel
theorem dL_law_408 : decode cL_law 408 = .ok (.iadd, 1) := by decide +kernel
theorem dL_law_409 : decode cL_law 409 = .ok (.iaload, 1) := by decide +kernel
theorem dL_law_410 : decode cL_law 410 = .ok (.invokevirtual 58, 3) := by decide +kernel
theorem dL_law_413 : decode cL_law 413 = .ok (.aload_n 2, 1) := by decide +kernel
theorem dL_law_414 : decode cL_law 414 = .ok (.aload_n 0, 1) := by decide +kernel
theorem dL_law_415 : decode cL_law 415 = .ok (.iload_n 3, 1) := by decide +kernel
theorem dL_law_416 : decode cL_law 416 = .ok (.iconst 1, 1) := by decide +kernel
theorem dL_law_417 : decode cL_law 417 = .ok (.iadd, 1) := by decide +kernel
theorem dL_law_418 : decode cL_law 418 = .ok (.iaload, 1) := by decide +kernel
theorem dL_law_419 : decode cL_law 419 = .ok (.invokevirtual 62, 3) := by decide +kernel
theorem dL_law_422 : decode cL_law 422 = .ok (.goto 26, 3) := by decide +kernel
theorem dL_law_425 : decode cL_law 425 = .ok (.aload_n 1, 1) := by decide +kernel
theorem dL_law_426 : decode cL_law 426 = .ok (.aload_n 0, 1) := by decide +kernel
theorem dL_law_427 : decode cL_law 427 = .ok (.iload_n 3, 1) := by decide +kernel
theorem dL_law_428 : decode cL_law 428 = .ok (.iconst 1, 1) := by decide +kernel
theorem dL_law_429 : decode cL_law 429 = .ok (.iadd, 1) := by decide +kernel
theorem dL_law_430 : decode cL_law 430 = .ok (.iaload, 1) := by decide +kernel
theorem dL_law_431 : decode cL_law 431 = .ok (.invokevirtual 63, 3) := by decide +kernel
theorem dL_law_434 : decode cL_law 434 = .ok (.aload_n 2, 1) := by decide +kernel
theorem dL_law_435 : decode cL_law 435 = .ok (.aload_n 0, 1) := by decide +kernel
theorem dL_law_436 : decode cL_law 436 = .ok (.iload_n 3, 1) := by decide +kernel
theorem dL_law_437 : decode cL_law 437 = .ok (.iconst 1, 1) := by decide +kernel
theorem dL_law_438 : decode cL_law 438 = .ok (.iadd, 1) := by decide +kernel
theorem dL_law_439 : decode cL_law 439 = .ok (.iaload, 1) := by decide +kernel
theorem dL_law_440 : decode cL_law 440 = .ok (.invokevirtual 66, 3) := by decide +kernel
theorem dL_law_443 : decode cL_law 443 = .ok (.if_icmp .eq 5, 3) := by decide +kernel
theorem dL_law_446 : decode cL_law 446 = .ok (.iconst 0, 1) := by decide +kernel
theorem dL_law_447 : decode cL_law 447 = .ok (.ireturn, 1) := by decide +kernel
theorem dL_law_448 : decode cL_law 448 = .ok (.iinc 3 5, 3) := by decide +kernel
theorem dL_law_451 : decode cL_law 451 = .ok (.goto (-433), 3) := by decide +kernel
theorem dL_law_454 : decode cL_law 454 = .ok (.iconst 1, 1) := by decide +kernel
theorem dL_law_455 : decode cL_law 455 = .ok (.ireturn, 1) := by decide +kernel
end
section
/-! THE JUDGEMENT GG: a method of a class whose objects are pictured by a state (Nat → Nat → Int32: field, place), and its rows, one an instruction -/
abbrev vwCl : List vw_C := [(RX0, TX0, 20), (RX1, TX1, 7)]
abbrev ckS : Type := Nat → Nat → Int32
def ckUp (σ : ckS) (k : Nat) (f : Nat → Int32) : ckS := fun j => if j = k then f else σ j
abbrev ckL : Type := List (Option Value)
def lvE (lv : ckL) : List (Nat × Value) := lv.zipIdx.filterMap (fun q => q.1.map (fun v => (q.2, v)))
theorem lvE_mem {lv : ckL} {i : Nat} {v : Value} : (i, v) ∈ lvE lv ↔ lv[i]? = some (some v) := by
  unfold lvE
  rw [List.mem_filterMap]
  constructor
  · rintro ⟨⟨x, j⟩, h1, h2⟩
    rw [List.mem_zipIdx_iff_getElem?] at h1
    cases x with
    | none => simp at h2
    | some w =>
      simp at h2
      obtain ⟨rfl, rfl⟩ := h2
      exact h1
  · intro h
    exact ⟨(some v, i), List.mem_zipIdx_iff_getElem?.mpr h, rfl⟩
def lvH (ls : Array Slot) (nL : Nat) (lv : ckL) : Prop := lv_has ls nL (lvE lv) ∧ ∀ (i : Nat) (v : Value), lv[i]? = some (some v) → v.category = 1
theorem lvH_at {ls : Array Slot} {nL : Nat} {lv : ckL} (h : lvH ls nL lv) {i : Nat} {v : Value} (hk : lv[i]? = some (some v)) : ls[i]? = some (.val v) := h.1.2.2 (i, v) (lvE_mem.mpr hk)
theorem lvH_set {ls ls' : Array Slot} {nL : Nat} {lv : ckL} {i : Nat} {v : Value} (h : lvH ls nL lv) (hv : v.category = 1) (h' : lv_has ls' nL ((i, v) :: (lvE lv).filter (fun q => !(q.1 == i) && !(q.1 + 1 == i && q.2.category == 2)))) : lvH ls' nL (lv.set i (some v)) := by
  have key : ∀ (j : Nat) (w : Value), (lv.set i (some v))[j]? = some (some w) → (j = i ∧ w = v) ∨ (j ≠ i ∧ lv[j]? = some (some w)) := by
    intro j w hw
    rw [List.getElem?_set] at hw
    by_cases e : i = j
    · rw [if_pos e] at hw
      by_cases e2 : i < lv.length
      · rw [if_pos e2] at hw
        simp at hw
        exact Or.inl ⟨e.symm, hw.symm⟩
      · rw [if_neg e2] at hw
        simp at hw
    · rw [if_neg e] at hw
      exact Or.inr ⟨fun q => e q.symm, hw⟩
  refine ⟨⟨h'.1, h'.2.1, fun q hq => ?_⟩, fun j w hw => ?_⟩
  · obtain ⟨j, w⟩ := q
    rcases key j w (lvE_mem.mp hq) with ⟨rfl, rfl⟩ | ⟨hne, hw⟩
    · exact h'.2.2 _ List.mem_cons_self
    · refine h'.2.2 _ (List.mem_cons_of_mem _ (List.mem_filter.mpr ⟨lvE_mem.mpr hw, ?_⟩))
      have hc := h.2 j w hw
      simp [hne, hc]
  · rcases key j w hw with ⟨rfl, rfl⟩ | ⟨hne, hw⟩
    · exact hv
    · exact h.2 j w hw
theorem lv_args1 : ∀ (vs : List Value) (j : Nat), (∀ v ∈ vs, v.category = 1) → ∀ (i : Nat) (v : Value), vs[i]? = some v → (j + i, v) ∈ lv_args j vs := by
  intro vs
  induction vs with
  | nil => intro j _ i v h; simp at h
  | cons a r ih =>
    intro j hc i v h
    have ha : ¬ a.category = 2 := by have := hc a List.mem_cons_self; omega
    rw [lv_args, if_neg ha]
    cases i with
    | zero =>
      simp at h
      subst h
      exact List.mem_cons_self
    | succ i =>
      have h2 := ih (j + 1) (fun w hw => hc w (List.mem_cons_of_mem _ hw)) i v (by simpa using h)
      rw [show j + (i + 1) = j + 1 + i by omega]
      exact List.mem_cons_of_mem _ h2
/-- the locals at a method's entry -/
def lvIn (as : List Value) (nL : Nat) : ckL := as.map some ++ List.replicate (nL - as.length) none
theorem lvH_in {as : List Value} {nL : Nat} (hc : ∀ v ∈ as, v.category = 1) (h : (lg_sl as).length ≤ nL) : lvH ((lg_sl as ++ List.replicate (nL - (lg_sl as).length) Slot.unset).toArray) nL (lvIn as nL) := by
  have hl := lv_entry as h
  have key : ∀ (i : Nat) (v : Value), (lvIn as nL)[i]? = some (some v) → as[i]? = some v := by
    intro i v hv
    unfold lvIn at hv
    by_cases hi : i < as.length
    · rw [List.getElem?_append_left (by simpa using hi)] at hv
      rw [List.getElem?_map] at hv
      cases ha : as[i]? with
      | none => rw [ha] at hv; simp at hv
      | some w => rw [ha] at hv; simp at hv; rw [hv]
    · rw [List.getElem?_append_right (by simpa using hi)] at hv
      rw [List.getElem?_replicate] at hv
      split at hv <;> simp at hv
  refine ⟨⟨hl.1, hl.2.1, fun q hq => ?_⟩, fun i v hv => ?_⟩
  · obtain ⟨i, v⟩ := q
    have h2 := lv_args1 as 0 hc i v (key i v (lvE_mem.mp hq))
    rw [Nat.zero_add] at h2
    exact hl.2.2 _ h2
  · exact hc v (List.mem_of_getElem? (key i v hv))
/-- a class as the worlds have it -/
def ckCl (ci : Nat) (Cn : String) (T : u_T) (N : Nat) (ty : Nat → FieldType) : Prop := vwCl[ci]? = some (Cn, T, N) ∧ (∀ w ∈ u_ws Cn T N, w ∈ lw_all) ∧ (∀ k, k < N → parseFieldDescriptor (T k).2.2.1 = some (ty k)) ∧ (∀ a, a < N → ∀ b, b < N → a ≠ b → (T a).2.1 ≠ (T b).2.1)
theorem ckCl0 : ckCl 0 RX0 TX0 20 tyX0 := ⟨rfl, in_X0, tyX0_ok, nmX0⟩
theorem ckCl1 : ckCl 1 RX1 TX1 7 tyX1 := ⟨rfl, in_X1, tyX1_ok, nmX1⟩
/-- the picture wf of an object at h0: kinds of fields kd (0 a number, 1 an int array, 2 a boolean array), arrays' lengths len, their addresses ad -/
def ckSh (wf : ckS → va_W) (h0 : Nat) (ad : Nat → Nat) (ci : Nat) (cI cZ : ClassId) (kd len : Nat → Nat) (N : Nat) : Prop :=
  (∀ (σ : ckS) (k : Nat), kd k = 1 → ∃ q, (wf σ)[q]? = some (ad k, .inl (cI, len k, .inl (σ k))) ∧ ∀ f, (wf σ).set q (ad k, .inl (cI, len k, .inl f)) = wf (ckUp σ k f)) ∧
  (∀ (σ : ckS) (k : Nat), kd k = 2 → ∃ q, (wf σ)[q]? = some (ad k, .inl (cZ, len k, .inl (σ k))) ∧ ∀ f, (wf σ).set q (ad k, .inl (cZ, len k, .inl f)) = wf (ckUp σ k f)) ∧
  (∀ (σ : ckS), ∃ fs, (wf σ)[0]? = some (h0, .inr (ci, fs)) ∧ fs.length = N ∧ (∀ k, kd k = 1 ∨ kd k = 2 → fs[k]? = some (.ref (ad k))) ∧ (∀ k, kd k = 0 → fs[k]? = some (.int (σ k 0)) ∧ ∀ v : Int32, (wf σ).set 0 (h0, .inr (ci, fs.set k (.int v))) = wf (ckUp σ k (fun _ => v))))
/-- what a method's walk holds all along -/
def gC (p : Program) (c : Code) (s : State) (m : MethodId) (args : Array Value) (meth : Method) (A : Nat → Prop) (cc : ByteArray) (nL : Nat) (own : String) (rt : Option FieldType) : Prop :=
  p.tables.exec = Jvm.exec ∧ c.code = cc ∧ c.maxLocals = nL ∧ s.vm.findClass own = some m.cls ∧ (∀ w ∈ lw_all, w.before args s = true) ∧ (∀ q : Nat, s.heap.size ≤ q → A q) ∧ meth.sig.returnType = rt ∧ meth.locks = false
def gS (s : State) (D : va_G) (wf : ckS → va_W) (own : String) (ci : Nat) (T : u_T) (N : Nat) (ty : Nat → FieldType) (h0 : Nat) (ad : Nat → Nat) (cI cZ : ClassId) (kd len : Nat → Nat) : Prop :=
  ckCl ci own T N ty ∧ va_K D vwCl [(cI, .int), (cZ, .boolean)] s ∧ ckSh wf h0 ad ci cI cZ kd len N
def GG (p : Program) (l : Launch) (e : Env) (R : Room) (s : State) (m : MethodId) (args : Array Value) (below : List Frame) (meth : Method) (c : Code) (Q : State → Prop) (D : va_G) (wf : ckS → va_W) (A : Nat → Prop) (nL kc ks : Nat) (pc : Nat) (lv : ckL) (st : List Value) (σ : ckS) : Prop :=
  ∀ (H : Heap) (locs : List Loc) (ls : Array Slot), va_P D vwCl (wf σ) H → va_D A (wf σ) → va_S A s.heap H locs → lvH ls nL lv → W p l e R s m args below meth c H locs kc ks Q (F0 m pc ls st)
/-- a contract's start and end, over the picture -/
abbrev ckB (D : va_G) (wf : ckS → va_W) (A : Nat → Prop) (σ : ckS) (t : State) : Prop := va_P D vwCl (wf σ) t.heap ∧ va_D A (wf σ)
abbrev ckPre (D : va_G) (wf : ckS → va_W) (cI cZ : ClassId) (as : List Value) (σ : ckS) (sz : Nat) : Array Value → State → Prop := va_Pc as (fun U => U.heap.size = sz ∧ va_P D vwCl (wf σ) U.heap ∧ va_K D vwCl [(cI, .int), (cZ, .boolean)] U ∧ va_D (fun _ => True) (wf σ))
abbrev ckI (l : Launch) (y : MethodName) (cc : ByteArray) (nL : Nat) (rt : Option FieldType) (rm : Room) (D : va_G) (wf : ckS → va_W) (cI cZ : ClassId) (as : List Value) (σ : ckS) (post : Int32 → ckS → Prop) : Prop := ∀ sz : Nat, Met l y (ws_ y cc nL rt) rm (ckPre D wf cI cZ as σ sz) (va_Qi post (ckB D wf (va_A (wf σ) sz)) (va_A (wf σ) sz)) 0 0 (va_A (wf σ) sz)
abbrev ckV (l : Launch) (y : MethodName) (cc : ByteArray) (nL : Nat) (rm : Room) (D : va_G) (wf : ckS → va_W) (cI cZ : ClassId) (as : List Value) (σ : ckS) (post : ckS → Prop) : Prop := ∀ sz : Nat, Met l y (ws_ y cc nL none) rm (ckPre D wf cI cZ as σ sz) (va_Qv post (ckB D wf (va_A (wf σ) sz)) (va_A (wf σ) sz)) 0 0 (va_A (wf σ) sz)
/-- a static method that has no world -/
abbrev ckT (l : Launch) (y : MethodName) (cc : ByteArray) (nL : Nat) (rt : Option FieldType) (rm : Room) (as : List Value) (post : Int32 → Prop) : Prop := ∀ sz : Nat, Met l y (ws_ y cc nL rt) rm (va_Pc as (fun U => U.heap.size = sz)) (va_Qi (fun (r : Int32) (_ : ckS) => post r) (fun _ _ => True) (va_A [] sz)) 0 0 (va_A [] sz)
abbrev rmD (d : Nat) : Room := { frames := d, cells := 0, slots := 0, locals := 30 * d }
section GROWS
variable {p : Program} {l : Launch} {e : Env} {R : Room} {s : State} {m : MethodId} {args : Array Value} {below : List Frame} {meth : Method} {c : Code} {Q : State → Prop} {D : va_G} {wf : ckS → va_W} {A : Nat → Prop} {nL kc ks : Nat}
variable {cc : ByteArray} {own : String} {rt : Option FieldType} {pc : Nat} {lv : ckL} {st : List Value} {σ : ckS}
variable {ci : Nat} {T : u_T} {N : Nat} {ty : Nat → FieldType} {h0 : Nat} {ad : Nat → Nat} {cI cZ : ClassId} {kd len : Nat → Nat}
theorem gg_iconst (C : gC p c s m args meth A cc nL own rt) {n : Int} {v : Int32} (hd : decode cc pc = .ok (.iconst n, 1)) (hv : Int32.ofInt n = v) (kk : GG p l e R s m args below meth c Q D wf A nL kc ks (pc + 1) (lv) (.int v :: st) (σ)) : GG p l e R s m args below meth c Q D wf A nL kc ks (pc) (lv) (st) (σ) := fun H locs ls h1 h2 h3 h4 => lv_iconst C.1 C.2.1 hd hv (kk H locs ls h1 h2 h3 h4)
theorem gg_bipush (C : gC p c s m args meth A cc nL own rt) {n : Int} {v : Int32} (hd : decode cc pc = .ok (.bipush n, 2)) (hv : (Int8.ofInt n).toInt32 = v) (kk : GG p l e R s m args below meth c Q D wf A nL kc ks (pc + 2) (lv) (.int v :: st) (σ)) : GG p l e R s m args below meth c Q D wf A nL kc ks (pc) (lv) (st) (σ) := fun H locs ls h1 h2 h3 h4 => lv_bipush C.1 C.2.1 hd hv (kk H locs ls h1 h2 h3 h4)
theorem gg_sipush (C : gC p c s m args meth A cc nL own rt) {n : Int} {v : Int32} (hd : decode cc pc = .ok (.sipush n, 3)) (hv : (Int16.ofInt n).toInt32 = v) (kk : GG p l e R s m args below meth c Q D wf A nL kc ks (pc + 3) (lv) (.int v :: st) (σ)) : GG p l e R s m args below meth c Q D wf A nL kc ks (pc) (lv) (st) (σ) := fun H locs ls h1 h2 h3 h4 => lv_sipush C.1 C.2.1 hd hv (kk H locs ls h1 h2 h3 h4)
theorem gg_iload_n (C : gC p c s m args meth A cc nL own rt) {k : Fin 4} {i : Nat} {x : Int32} (hd : decode cc pc = .ok (.iload_n k, 1)) (hi : (k : Nat) = i) (hl : lv[i]? = some (some (.int x))) (kk : GG p l e R s m args below meth c Q D wf A nL kc ks (pc + 1) (lv) (.int x :: st) (σ)) : GG p l e R s m args below meth c Q D wf A nL kc ks (pc) (lv) (st) (σ) := fun H locs ls h1 h2 h3 h4 => lv_iload_n C.1 C.2.1 hd hi (lvH_at h4 hl) (kk H locs ls h1 h2 h3 h4)
theorem gg_iload (C : gC p c s m args meth A cc nL own rt) {i : Nat} {x : Int32} (hd : decode cc pc = .ok (.iload i, 2)) (hl : lv[i]? = some (some (.int x))) (kk : GG p l e R s m args below meth c Q D wf A nL kc ks (pc + 2) (lv) (.int x :: st) (σ)) : GG p l e R s m args below meth c Q D wf A nL kc ks (pc) (lv) (st) (σ) := fun H locs ls h1 h2 h3 h4 => lv_iload C.1 C.2.1 hd (lvH_at h4 hl) (kk H locs ls h1 h2 h3 h4)
theorem gg_aload_n (C : gC p c s m args meth A cc nL own rt) {k : Fin 4} {i : Nat} {x : Nat} (hd : decode cc pc = .ok (.aload_n k, 1)) (hi : (k : Nat) = i) (hl : lv[i]? = some (some (.ref x))) (kk : GG p l e R s m args below meth c Q D wf A nL kc ks (pc + 1) (lv) (.ref x :: st) (σ)) : GG p l e R s m args below meth c Q D wf A nL kc ks (pc) (lv) (st) (σ) := fun H locs ls h1 h2 h3 h4 => lv_aload_n C.1 C.2.1 hd hi (lvH_at h4 hl) (kk H locs ls h1 h2 h3 h4)
theorem gg_istore_n (C : gC p c s m args meth A cc nL own rt) {k : Fin 4} {i : Nat} {x : Int32} {lv1 : ckL} (hd : decode cc pc = .ok (.istore_n k, 1)) (hi : (k : Nat) = i) (hn : i < nL) (hl : lv.set i (some (.int x)) = lv1) (kk : GG p l e R s m args below meth c Q D wf A nL kc ks (pc + 1) (lv1) (st) (σ)) : GG p l e R s m args below meth c Q D wf A nL kc ks (pc) (lv) (.int x :: st) (σ) := fun H locs ls h1 h2 h3 h4 => lv_istore_n C.1 C.2.1 hd hi h4.1 hn rfl (fun ls h5 => kk H locs ls h1 h2 h3 (hl ▸ lvH_set h4 rfl h5))
theorem gg_istore (C : gC p c s m args meth A cc nL own rt) {i : Nat} {x : Int32} {lv1 : ckL} (hd : decode cc pc = .ok (.istore i, 2)) (hn : i < nL) (hl : lv.set i (some (.int x)) = lv1) (kk : GG p l e R s m args below meth c Q D wf A nL kc ks (pc + 2) (lv1) (st) (σ)) : GG p l e R s m args below meth c Q D wf A nL kc ks (pc) (lv) (.int x :: st) (σ) := fun H locs ls h1 h2 h3 h4 => lv_istore C.1 C.2.1 hd h4.1 hn rfl (fun ls h5 => kk H locs ls h1 h2 h3 (hl ▸ lvH_set h4 rfl h5))
theorem gg_iinc (C : gC p c s m args meth A cc nL own rt) {i : Nat} {n : Int} {x v : Int32} {lv1 : ckL} (hd : decode cc pc = .ok (.iinc i n, 3)) (hx : lv[i]? = some (some (.int x))) (hv : x + Int32.ofInt n = v) (hn : i < nL) (hl : lv.set i (some (.int v)) = lv1) (kk : GG p l e R s m args below meth c Q D wf A nL kc ks (pc + 3) (lv1) (st) (σ)) : GG p l e R s m args below meth c Q D wf A nL kc ks (pc) (lv) (st) (σ) := by
  intro H locs ls h1 h2 h3 h4
  obtain ⟨k, hk⟩ := List.getElem?_of_mem (lvE_mem.mpr hx)
  exact lv_iinc C.1 C.2.1 hd h4.1 hk hv hn rfl (fun ls h5 => kk H locs ls h1 h2 h3 (hl ▸ lvH_set h4 rfl h5))
theorem gg_iadd (C : gC p c s m args meth A cc nL own rt) {x y : Int32} (hd : decode cc pc = .ok (.iadd, 1)) (kk : GG p l e R s m args below meth c Q D wf A nL kc ks (pc + 1) (lv) (.int (x + y) :: st) (σ)) : GG p l e R s m args below meth c Q D wf A nL kc ks (pc) (lv) (.int y :: .int x :: st) (σ) := fun H locs ls h1 h2 h3 h4 => lv_iadd C.1 C.2.1 hd (kk H locs ls h1 h2 h3 h4)
theorem gg_imul (C : gC p c s m args meth A cc nL own rt) {x y : Int32} (hd : decode cc pc = .ok (.imul, 1)) (kk : GG p l e R s m args below meth c Q D wf A nL kc ks (pc + 1) (lv) (.int (x * y) :: st) (σ)) : GG p l e R s m args below meth c Q D wf A nL kc ks (pc) (lv) (.int y :: .int x :: st) (σ) := fun H locs ls h1 h2 h3 h4 => lv_imul C.1 C.2.1 hd (kk H locs ls h1 h2 h3 h4)
theorem gg_isub (C : gC p c s m args meth A cc nL own rt) {x y : Int32} (hd : decode cc pc = .ok (.isub, 1)) (kk : GG p l e R s m args below meth c Q D wf A nL kc ks (pc + 1) (lv) (.int (x - y) :: st) (σ)) : GG p l e R s m args below meth c Q D wf A nL kc ks (pc) (lv) (.int y :: .int x :: st) (σ) := fun H locs ls h1 h2 h3 h4 => lv_isub C.1 C.2.1 hd (kk H locs ls h1 h2 h3 h4)
theorem gg_idiv (C : gC p c s m args meth A cc nL own rt) {x y : Int32} (hd : decode cc pc = .ok (.idiv, 1)) (hne : ¬ y = 0) (kk : GG p l e R s m args below meth c Q D wf A nL kc ks (pc + 1) (lv) (.int (x / y) :: st) (σ)) : GG p l e R s m args below meth c Q D wf A nL kc ks (pc) (lv) (.int y :: .int x :: st) (σ) := fun H locs ls h1 h2 h3 h4 => lv_idiv C.1 C.2.1 hd hne (kk H locs ls h1 h2 h3 h4)
theorem gg_iand (C : gC p c s m args meth A cc nL own rt) {x y : Int32} (hd : decode cc pc = .ok (.iand, 1)) (kk : GG p l e R s m args below meth c Q D wf A nL kc ks (pc + 1) (lv) (.int (x &&& y) :: st) (σ)) : GG p l e R s m args below meth c Q D wf A nL kc ks (pc) (lv) (.int y :: .int x :: st) (σ) := fun H locs ls h1 h2 h3 h4 => lv_iand C.1 C.2.1 hd (kk H locs ls h1 h2 h3 h4)
theorem gg_iaddN (C : gC p c s m args meth A cc nL own rt) {a b : Nat} (hd : decode cc pc = .ok (.iadd, 1)) (kk : GG p l e R s m args below meth c Q D wf A nL kc ks (pc + 1) (lv) (.int (nI (a + b)) :: st) (σ)) : GG p l e R s m args below meth c Q D wf A nL kc ks (pc) (lv) (.int (nI b) :: .int (nI a) :: st) (σ) := gg_iadd C hd (by rw [nI_add]; exact kk)
theorem gg_imulN (C : gC p c s m args meth A cc nL own rt) {a b : Nat} (hd : decode cc pc = .ok (.imul, 1)) (kk : GG p l e R s m args below meth c Q D wf A nL kc ks (pc + 1) (lv) (.int (nI (a * b)) :: st) (σ)) : GG p l e R s m args below meth c Q D wf A nL kc ks (pc) (lv) (.int (nI b) :: .int (nI a) :: st) (σ) := gg_imul C hd (by rw [pk_mul]; exact kk)
theorem gg_iincN (C : gC p c s m args meth A cc nL own rt) {i a : Nat} {lv1 : ckL} (hd : decode cc pc = .ok (.iinc i 1, 3)) (hx : lv[i]? = some (some (.int (nI a)))) (hn : i < nL) (hl : lv.set i (some (.int (nI (a + 1)))) = lv1) (kk : GG p l e R s m args below meth c Q D wf A nL kc ks (pc + 3) (lv1) (st) (σ)) : GG p l e R s m args below meth c Q D wf A nL kc ks (pc) (lv) (st) (σ) := gg_iinc C hd hx (v := nI (a + 1)) (nI_1 a) hn hl kk
/-- the top of the stack under another name -/
theorem gg_top {x y : Int32} (h : x = y) (kk : GG p l e R s m args below meth c Q D wf A nL kc ks (pc) (lv) (.int y :: st) (σ)) : GG p l e R s m args below meth c Q D wf A nL kc ks (pc) (lv) (.int x :: st) (σ) := h ▸ kk
theorem gg_st {st1 : List Value} (h : st = st1) (kk : GG p l e R s m args below meth c Q D wf A nL kc ks (pc) (lv) (st1) (σ)) : GG p l e R s m args below meth c Q D wf A nL kc ks (pc) (lv) (st) (σ) := h ▸ kk
theorem gg_lv {lv1 : ckL} (h : lv = lv1) (kk : GG p l e R s m args below meth c Q D wf A nL kc ks (pc) (lv1) (st) (σ)) : GG p l e R s m args below meth c Q D wf A nL kc ks (pc) (lv) (st) (σ) := h ▸ kk
/-- what is known of some locals is forgotten -/
theorem gg_lvf {lv1 : ckL} (h : ∀ (i : Nat) (v : Value), lv1[i]? = some (some v) → lv[i]? = some (some v)) (kk : GG p l e R s m args below meth c Q D wf A nL kc ks (pc) (lv1) (st) (σ)) : GG p l e R s m args below meth c Q D wf A nL kc ks (pc) (lv) (st) (σ) := fun H locs ls h1 h2 h3 h4 => kk H locs ls h1 h2 h3 ⟨⟨h4.1.1, h4.1.2.1, fun q hq => h4.1.2.2 q (by obtain ⟨i, v⟩ := q; exact lvE_mem.mpr (h i v (lvE_mem.mp hq)))⟩, fun i v hv => h4.2 i v (h i v hv)⟩
theorem gg_sg {σ1 : ckS} (h : σ = σ1) (kk : GG p l e R s m args below meth c Q D wf A nL kc ks (pc) (lv) (st) (σ1)) : GG p l e R s m args below meth c Q D wf A nL kc ks (pc) (lv) (st) (σ) := h ▸ kk
theorem gg_dup2 (C : gC p c s m args meth A cc nL own rt) {va vb : Value} (hd : decode cc pc = .ok (.dup2, 1)) (ha : va.category = 1) (hb : vb.category = 1) (kk : GG p l e R s m args below meth c Q D wf A nL kc ks (pc + 1) (lv) (va :: vb :: va :: vb :: st) (σ)) : GG p l e R s m args below meth c Q D wf A nL kc ks (pc) (lv) (va :: vb :: st) (σ) := fun H locs ls h1 h2 h3 h4 => lv_dup2_11 C.1 C.2.1 hd ha hb (kk H locs ls h1 h2 h3 h4)
theorem gg_goto (C : gC p c s m args meth A cc nL own rt) {off : Int} (tgt : Nat) (hd : decode cc pc = .ok (.goto off, 3)) (ht : (pc : Int) + off = (tgt : Int)) (kk : GG p l e R s m args below meth c Q D wf A nL kc ks (tgt) (lv) (st) (σ)) : GG p l e R s m args below meth c Q D wf A nL kc ks (pc) (lv) (st) (σ) := fun H locs ls h1 h2 h3 h4 => lv_goto C.1 C.2.1 hd ht (kk H locs ls h1 h2 h3 h4)
theorem gg_icmp_eq (C : gC p c s m args meth A cc nL own rt) {x y : Int32} {off : Int} (tgt : Nat) (hd : decode cc pc = .ok (.if_icmp .eq off, 3)) (ht : (pc : Int) + off = (tgt : Int)) (kt : x = y → GG p l e R s m args below meth c Q D wf A nL kc ks (tgt) (lv) (st) (σ)) (kf : ¬ x = y → GG p l e R s m args below meth c Q D wf A nL kc ks (pc + 3) (lv) (st) (σ)) : GG p l e R s m args below meth c Q D wf A nL kc ks (pc) (lv) (.int y :: .int x :: st) (σ) := fun H locs ls h1 h2 h3 h4 => lv_icmp_eq C.1 C.2.1 hd ht (fun q => kt q H locs ls h1 h2 h3 h4) (fun q => kf q H locs ls h1 h2 h3 h4)
theorem gg_if_eq (C : gC p c s m args meth A cc nL own rt) {x : Int32} {off : Int} (tgt : Nat) (hd : decode cc pc = .ok (.ifCond .eq off, 3)) (ht : (pc : Int) + off = (tgt : Int)) (kt : x = 0 → GG p l e R s m args below meth c Q D wf A nL kc ks (tgt) (lv) (st) (σ)) (kf : ¬ x = 0 → GG p l e R s m args below meth c Q D wf A nL kc ks (pc + 3) (lv) (st) (σ)) : GG p l e R s m args below meth c Q D wf A nL kc ks (pc) (lv) (.int x :: st) (σ) := fun H locs ls h1 h2 h3 h4 => lv_if_eq C.1 C.2.1 hd ht (fun q => kt q H locs ls h1 h2 h3 h4) (fun q => kf q H locs ls h1 h2 h3 h4)
theorem gg_icmp_ne (C : gC p c s m args meth A cc nL own rt) {x y : Int32} {off : Int} (tgt : Nat) (hd : decode cc pc = .ok (.if_icmp .ne off, 3)) (ht : (pc : Int) + off = (tgt : Int)) (kt : ¬ x = y → GG p l e R s m args below meth c Q D wf A nL kc ks (tgt) (lv) (st) (σ)) (kf : x = y → GG p l e R s m args below meth c Q D wf A nL kc ks (pc + 3) (lv) (st) (σ)) : GG p l e R s m args below meth c Q D wf A nL kc ks (pc) (lv) (.int y :: .int x :: st) (σ) := fun H locs ls h1 h2 h3 h4 => lv_icmp_ne C.1 C.2.1 hd ht (fun q => kt q H locs ls h1 h2 h3 h4) (fun q => kf q H locs ls h1 h2 h3 h4)
theorem gg_if_ne (C : gC p c s m args meth A cc nL own rt) {x : Int32} {off : Int} (tgt : Nat) (hd : decode cc pc = .ok (.ifCond .ne off, 3)) (ht : (pc : Int) + off = (tgt : Int)) (kt : ¬ x = 0 → GG p l e R s m args below meth c Q D wf A nL kc ks (tgt) (lv) (st) (σ)) (kf : x = 0 → GG p l e R s m args below meth c Q D wf A nL kc ks (pc + 3) (lv) (st) (σ)) : GG p l e R s m args below meth c Q D wf A nL kc ks (pc) (lv) (.int x :: st) (σ) := fun H locs ls h1 h2 h3 h4 => lv_if_ne C.1 C.2.1 hd ht (fun q => kt q H locs ls h1 h2 h3 h4) (fun q => kf q H locs ls h1 h2 h3 h4)
theorem gg_icmp_lt (C : gC p c s m args meth A cc nL own rt) {x y : Int32} {off : Int} (tgt : Nat) (hd : decode cc pc = .ok (.if_icmp .lt off, 3)) (ht : (pc : Int) + off = (tgt : Int)) (kt : x < y → GG p l e R s m args below meth c Q D wf A nL kc ks (tgt) (lv) (st) (σ)) (kf : ¬ x < y → GG p l e R s m args below meth c Q D wf A nL kc ks (pc + 3) (lv) (st) (σ)) : GG p l e R s m args below meth c Q D wf A nL kc ks (pc) (lv) (.int y :: .int x :: st) (σ) := fun H locs ls h1 h2 h3 h4 => lv_icmp_lt C.1 C.2.1 hd ht (fun q => kt q H locs ls h1 h2 h3 h4) (fun q => kf q H locs ls h1 h2 h3 h4)
theorem gg_if_lt (C : gC p c s m args meth A cc nL own rt) {x : Int32} {off : Int} (tgt : Nat) (hd : decode cc pc = .ok (.ifCond .lt off, 3)) (ht : (pc : Int) + off = (tgt : Int)) (kt : x < 0 → GG p l e R s m args below meth c Q D wf A nL kc ks (tgt) (lv) (st) (σ)) (kf : ¬ x < 0 → GG p l e R s m args below meth c Q D wf A nL kc ks (pc + 3) (lv) (st) (σ)) : GG p l e R s m args below meth c Q D wf A nL kc ks (pc) (lv) (.int x :: st) (σ) := fun H locs ls h1 h2 h3 h4 => lv_if_lt C.1 C.2.1 hd ht (fun q => kt q H locs ls h1 h2 h3 h4) (fun q => kf q H locs ls h1 h2 h3 h4)
theorem gg_icmp_ge (C : gC p c s m args meth A cc nL own rt) {x y : Int32} {off : Int} (tgt : Nat) (hd : decode cc pc = .ok (.if_icmp .ge off, 3)) (ht : (pc : Int) + off = (tgt : Int)) (kt : y ≤ x → GG p l e R s m args below meth c Q D wf A nL kc ks (tgt) (lv) (st) (σ)) (kf : ¬ y ≤ x → GG p l e R s m args below meth c Q D wf A nL kc ks (pc + 3) (lv) (st) (σ)) : GG p l e R s m args below meth c Q D wf A nL kc ks (pc) (lv) (.int y :: .int x :: st) (σ) := fun H locs ls h1 h2 h3 h4 => lv_icmp_ge C.1 C.2.1 hd ht (fun q => kt q H locs ls h1 h2 h3 h4) (fun q => kf q H locs ls h1 h2 h3 h4)
theorem gg_if_ge (C : gC p c s m args meth A cc nL own rt) {x : Int32} {off : Int} (tgt : Nat) (hd : decode cc pc = .ok (.ifCond .ge off, 3)) (ht : (pc : Int) + off = (tgt : Int)) (kt : 0 ≤ x → GG p l e R s m args below meth c Q D wf A nL kc ks (tgt) (lv) (st) (σ)) (kf : ¬ 0 ≤ x → GG p l e R s m args below meth c Q D wf A nL kc ks (pc + 3) (lv) (st) (σ)) : GG p l e R s m args below meth c Q D wf A nL kc ks (pc) (lv) (.int x :: st) (σ) := fun H locs ls h1 h2 h3 h4 => lv_if_ge C.1 C.2.1 hd ht (fun q => kt q H locs ls h1 h2 h3 h4) (fun q => kf q H locs ls h1 h2 h3 h4)
theorem gg_icmp_gt (C : gC p c s m args meth A cc nL own rt) {x y : Int32} {off : Int} (tgt : Nat) (hd : decode cc pc = .ok (.if_icmp .gt off, 3)) (ht : (pc : Int) + off = (tgt : Int)) (kt : y < x → GG p l e R s m args below meth c Q D wf A nL kc ks (tgt) (lv) (st) (σ)) (kf : ¬ y < x → GG p l e R s m args below meth c Q D wf A nL kc ks (pc + 3) (lv) (st) (σ)) : GG p l e R s m args below meth c Q D wf A nL kc ks (pc) (lv) (.int y :: .int x :: st) (σ) := fun H locs ls h1 h2 h3 h4 => lv_icmp_gt C.1 C.2.1 hd ht (fun q => kt q H locs ls h1 h2 h3 h4) (fun q => kf q H locs ls h1 h2 h3 h4)
theorem gg_if_gt (C : gC p c s m args meth A cc nL own rt) {x : Int32} {off : Int} (tgt : Nat) (hd : decode cc pc = .ok (.ifCond .gt off, 3)) (ht : (pc : Int) + off = (tgt : Int)) (kt : 0 < x → GG p l e R s m args below meth c Q D wf A nL kc ks (tgt) (lv) (st) (σ)) (kf : ¬ 0 < x → GG p l e R s m args below meth c Q D wf A nL kc ks (pc + 3) (lv) (st) (σ)) : GG p l e R s m args below meth c Q D wf A nL kc ks (pc) (lv) (.int x :: st) (σ) := fun H locs ls h1 h2 h3 h4 => lv_if_gt C.1 C.2.1 hd ht (fun q => kt q H locs ls h1 h2 h3 h4) (fun q => kf q H locs ls h1 h2 h3 h4)
theorem gg_icmp_le (C : gC p c s m args meth A cc nL own rt) {x y : Int32} {off : Int} (tgt : Nat) (hd : decode cc pc = .ok (.if_icmp .le off, 3)) (ht : (pc : Int) + off = (tgt : Int)) (kt : x ≤ y → GG p l e R s m args below meth c Q D wf A nL kc ks (tgt) (lv) (st) (σ)) (kf : ¬ x ≤ y → GG p l e R s m args below meth c Q D wf A nL kc ks (pc + 3) (lv) (st) (σ)) : GG p l e R s m args below meth c Q D wf A nL kc ks (pc) (lv) (.int y :: .int x :: st) (σ) := fun H locs ls h1 h2 h3 h4 => lv_icmp_le C.1 C.2.1 hd ht (fun q => kt q H locs ls h1 h2 h3 h4) (fun q => kf q H locs ls h1 h2 h3 h4)
theorem gg_if_le (C : gC p c s m args meth A cc nL own rt) {x : Int32} {off : Int} (tgt : Nat) (hd : decode cc pc = .ok (.ifCond .le off, 3)) (ht : (pc : Int) + off = (tgt : Int)) (kt : x ≤ 0 → GG p l e R s m args below meth c Q D wf A nL kc ks (tgt) (lv) (st) (σ)) (kf : ¬ x ≤ 0 → GG p l e R s m args below meth c Q D wf A nL kc ks (pc + 3) (lv) (st) (σ)) : GG p l e R s m args below meth c Q D wf A nL kc ks (pc) (lv) (.int x :: st) (σ) := fun H locs ls h1 h2 h3 h4 => lv_if_le C.1 C.2.1 hd ht (fun q => kt q H locs ls h1 h2 h3 h4) (fun q => kf q H locs ls h1 h2 h3 h4)
/-- a loop's head: i against the bound, both small numbers -/
theorem gg_icmp_geN (C : gC p c s m args meth A cc nL own rt) {a b : Nat} {off : Int} (tgt : Nat) (hd : decode cc pc = .ok (.if_icmp .ge off, 3)) (ht : (pc : Int) + off = (tgt : Int)) (ha : a < 2 ^ 31) (hb : b < 2 ^ 31) (kt : b ≤ a → GG p l e R s m args below meth c Q D wf A nL kc ks (tgt) (lv) (st) (σ)) (kf : a < b → GG p l e R s m args below meth c Q D wf A nL kc ks (pc + 3) (lv) (st) (σ)) : GG p l e R s m args below meth c Q D wf A nL kc ks (pc) (lv) (.int (nI b) :: .int (nI a) :: st) (σ) := gg_icmp_ge C tgt hd ht (fun q => kt ((nI_leI hb ha).mp q)) (fun q => kf (Nat.lt_of_not_le fun z => q ((nI_leI hb ha).mpr z)))
theorem gg_icmp_neN (C : gC p c s m args meth A cc nL own rt) {a b : Nat} {off : Int} (tgt : Nat) (hd : decode cc pc = .ok (.if_icmp .ne off, 3)) (ht : (pc : Int) + off = (tgt : Int)) (ha : a < 2 ^ 31) (hb : b < 2 ^ 31) (kt : ¬ a = b → GG p l e R s m args below meth c Q D wf A nL kc ks (tgt) (lv) (st) (σ)) (kf : a = b → GG p l e R s m args below meth c Q D wf A nL kc ks (pc + 3) (lv) (st) (σ)) : GG p l e R s m args below meth c Q D wf A nL kc ks (pc) (lv) (.int (nI b) :: .int (nI a) :: st) (σ) := gg_icmp_ne C tgt hd ht (fun q => kt (fun z => q ((nI_eq ha hb).mpr z))) (fun q => kf ((nI_eq ha hb).mp q))
theorem gg_icmp_eqN (C : gC p c s m args meth A cc nL own rt) {a b : Nat} {off : Int} (tgt : Nat) (hd : decode cc pc = .ok (.if_icmp .eq off, 3)) (ht : (pc : Int) + off = (tgt : Int)) (ha : a < 2 ^ 31) (hb : b < 2 ^ 31) (kt : a = b → GG p l e R s m args below meth c Q D wf A nL kc ks (tgt) (lv) (st) (σ)) (kf : ¬ a = b → GG p l e R s m args below meth c Q D wf A nL kc ks (pc + 3) (lv) (st) (σ)) : GG p l e R s m args below meth c Q D wf A nL kc ks (pc) (lv) (.int (nI b) :: .int (nI a) :: st) (σ) := gg_icmp_eq C tgt hd ht (fun q => kt ((nI_eq ha hb).mp q)) (fun q => kf (fun z => q ((nI_eq ha hb).mpr z)))
theorem gg_getA (C : gC p c s m args meth A cc nL own rt) (S : gS s D wf own ci T N ty h0 ad cI cZ kd len) (k : Nat) (hk : k < N) (hkd : kd k = 1 ∨ kd k = 2) {index : Nat} (hq : Cond.fieldLink own index (T k).1 (T k).2.1 (T k).2.2.1 ∈ lw_all) (hd : decode cc pc = .ok (.getfield index, 3)) (kk : GG p l e R s m args below meth c Q D wf A nL kc ks (pc + 3) (lv) (.ref (ad k) :: st) (σ)) : GG p l e R s m args below meth c Q D wf A nL kc ks (pc) (lv) (.ref h0 :: st) (σ) := by
  intro H locs ls h1 h2 h3 h4
  obtain ⟨fs, e0, e1, e2, e3⟩ := S.2.2.2.2 σ
  exact va_get C.1 C.2.1 C.2.2.2.2.1 S.1.2.1 C.2.2.2.1 S.2.1 h1 0 e0 S.1.1 k hk (C.2.2.2.2.1 _ hq) (fun _ h9 => h9) (e2 k hkd) hd (kk H locs ls h1 h2 h3 h4)
theorem gg_getI (C : gC p c s m args meth A cc nL own rt) (S : gS s D wf own ci T N ty h0 ad cI cZ kd len) (k : Nat) (hk : k < N) (hkd : kd k = 0) {index : Nat} (hq : Cond.fieldLink own index (T k).1 (T k).2.1 (T k).2.2.1 ∈ lw_all) (hd : decode cc pc = .ok (.getfield index, 3)) (kk : GG p l e R s m args below meth c Q D wf A nL kc ks (pc + 3) (lv) (.int (σ k 0) :: st) (σ)) : GG p l e R s m args below meth c Q D wf A nL kc ks (pc) (lv) (.ref h0 :: st) (σ) := by
  intro H locs ls h1 h2 h3 h4
  obtain ⟨fs, e0, e1, e2, e3⟩ := S.2.2.2.2 σ
  exact va_get C.1 C.2.1 C.2.2.2.2.1 S.1.2.1 C.2.2.2.1 S.2.1 h1 0 e0 S.1.1 k hk (C.2.2.2.2.1 _ hq) (fun _ h9 => h9) (e3 k hkd).1 hd (kk H locs ls h1 h2 h3 h4)
theorem gg_putI (C : gC p c s m args meth A cc nL own rt) (S : gS s D wf own ci T N ty h0 ad cI cZ kd len) (k : Nat) (hk : k < N) (hkd : kd k = 0) {index : Nat} (hq : Cond.fieldLink own index (T k).1 (T k).2.1 (T k).2.2.1 ∈ lw_all) (hfin : (T k).2.2.2 = false) {v : Int32} (hn : narrow (ty k) (.int v) = .int v) (hfit : fits (ty k) (.int v) = true) (hd : decode cc pc = .ok (.putfield index, 3)) (kk : GG p l e R s m args below meth c Q D wf A nL kc ks (pc + 3) (lv) (st) (ckUp σ k (fun _ => v))) : GG p l e R s m args below meth c Q D wf A nL kc ks (pc) (lv) (.int v :: .ref h0 :: st) (σ) := by
  intro H locs ls h1 h2 h3 h4
  obtain ⟨fs, e0, e1, e2, e3⟩ := S.2.2.2.2 σ
  have e4 := (e3 k hkd).2 v
  refine va_put C.1 C.2.1 C.2.2.2.2.1 S.1.2.1 ty S.1.2.2.1 S.1.2.2.2 C.2.2.2.1 S.2.1 h1 h2 h3 0 e0 S.1.1 k hk (C.2.2.2.2.1 _ hq) (fun _ h9 => h9) hfin (S.1.2.2.1 k hk) hn hfit (by rw [e1]; exact hk) hd (fun H1 locs1 g1 g2 g3 => ?_)
  rw [e4] at g1 g2
  exact kk H1 locs1 ls g1 g2 g3 h4
theorem gg_iald (C : gC p c s m args meth A cc nL own rt) (S : gS s D wf own ci T N ty h0 ad cI cZ kd len) {k j : Nat} (n : Nat) (hkd : kd k = 1) (hn : len k = n) (hj : j < n) (hb : n < 2 ^ 31) (hd : decode cc pc = .ok (.iaload, 1)) (kk : GG p l e R s m args below meth c Q D wf A nL kc ks (pc + 1) (lv) (.int (σ k j) :: st) (σ)) : GG p l e R s m args below meth c Q D wf A nL kc ks (pc) (lv) (.int (nI j) :: .ref (ad k) :: st) (σ) := by
  intro H locs ls h1 h2 h3 h4
  obtain ⟨q, e0, e1⟩ := S.2.2.1 σ k hkd
  rw [hn] at e0
  refine va_iald C.1 C.2.1 S.2.1 h1 q 0 e0 rfl (vp_in_nI hj hb) hd ?_
  rw [nI_clamp (by omega)]
  exact kk H locs ls h1 h2 h3 h4
theorem gg_iast (C : gC p c s m args meth A cc nL own rt) (S : gS s D wf own ci T N ty h0 ad cI cZ kd len) {k j : Nat} {x : Int32} (n : Nat) (hkd : kd k = 1) (hn : len k = n) (hj : j < n) (hb : n < 2 ^ 31) (hd : decode cc pc = .ok (.iastore, 1)) (kk : GG p l e R s m args below meth c Q D wf A nL kc ks (pc + 1) (lv) (st) (ckUp σ k (upd (σ k) j x))) : GG p l e R s m args below meth c Q D wf A nL kc ks (pc) (lv) (.int x :: .int (nI j) :: .ref (ad k) :: st) (σ) := by
  intro H locs ls h1 h2 h3 h4
  obtain ⟨q, e0, e1⟩ := S.2.2.1 σ k hkd
  have e2 := e1 (upd (σ k) j x)
  refine va_iast C.1 C.2.1 S.2.1 h1 h2 h3 q 0 e0 rfl (by rw [hn]; exact vp_in_nI hj hb) hd (fun H1 locs1 g1 g2 g3 => ?_)
  rw [nI_clamp (by omega)] at g1 g2
  rw [e2] at g1 g2
  exact kk H1 locs1 ls g1 g2 g3 h4
theorem gg_zald (C : gC p c s m args meth A cc nL own rt) (S : gS s D wf own ci T N ty h0 ad cI cZ kd len) {k j : Nat} (n : Nat) (hkd : kd k = 2) (hn : len k = n) (hj : j < n) (hb : n < 2 ^ 31) (hd : decode cc pc = .ok (.baload, 1)) (kk : GG p l e R s m args below meth c Q D wf A nL kc ks (pc + 1) (lv) (.int (σ k j) :: st) (σ)) : GG p l e R s m args below meth c Q D wf A nL kc ks (pc) (lv) (.int (nI j) :: .ref (ad k) :: st) (σ) := by
  intro H locs ls h1 h2 h3 h4
  obtain ⟨q, e0, e1⟩ := S.2.2.2.1 σ k hkd
  rw [hn] at e0
  refine va_zald C.1 C.2.1 S.2.1 h1 q 1 e0 rfl (vp_in_nI hj hb) hd ?_
  rw [nI_clamp (by omega)]
  exact kk H locs ls h1 h2 h3 h4
theorem gg_zast (C : gC p c s m args meth A cc nL own rt) (S : gS s D wf own ci T N ty h0 ad cI cZ kd len) {k j : Nat} {x : Int32} (n : Nat) (hkd : kd k = 2) (hn : len k = n) (hj : j < n) (hb : n < 2 ^ 31) (hz : vp_nar .boolean x = x) (hd : decode cc pc = .ok (.bastore, 1)) (kk : GG p l e R s m args below meth c Q D wf A nL kc ks (pc + 1) (lv) (st) (ckUp σ k (upd (σ k) j x))) : GG p l e R s m args below meth c Q D wf A nL kc ks (pc) (lv) (.int x :: .int (nI j) :: .ref (ad k) :: st) (σ) := by
  intro H locs ls h1 h2 h3 h4
  obtain ⟨q, e0, e1⟩ := S.2.2.2.1 σ k hkd
  have e2 := e1 (upd (σ k) j x)
  refine va_zast C.1 C.2.1 S.2.1 h1 h2 h3 q 1 e0 rfl (by rw [hn]; exact vp_in_nI hj hb) hd (fun H1 locs1 g1 g2 g3 => ?_)
  rw [nI_clamp (by omega)] at g1 g2
  rw [hz] at g1 g2
  rw [e2] at g1 g2
  exact kk H1 locs1 ls g1 g2 g3 h4
theorem ck_free {H0 H : Heap} {locs : List Loc} {ws : va_W} (hD : va_D A ws) (hS : va_S A H0 H locs) (hA : ∀ q : Nat, H0.size ≤ q → A q) : ∀ q, va_A ws H.size q → A q := by
  intro q h
  rcases h with ⟨k, e, h⟩ | h
  · exact hD.2 k _ h
  · exact hA q (Nat.le_trans hS.1 h)
theorem ck_blind (as : List Value) (sz : Nat) : FrameBlind (ckPre D wf cI cZ as σ sz) := fun a U g mk q => by
  obtain ⟨q0, q1, qP, qK, qD⟩ := q
  exact ⟨q0, q1, qP, va_K.moved (u := U) (U := U.calling g mk a) (Vm.Alike.refl U.vm) qK, qD⟩
theorem gg_callI (C : gC p c s m args meth A cc nL own rt) (S : gS s D wf own ci T N ty h0 ad cI cZ kd len) {y : MethodName} {bytes : ByteArray} {maxL n index : Nat} {rt1 : Option FieldType} {rm : Room} {post : Int32 → ckS → Prop} (As : List Value) {st0 : List Value} (hM : ckI l y bytes maxL rt1 rm D wf cI cZ (.ref h0 :: As) σ post) (hG : GoodIn lw_all (wsV own index own y (ws_ y bytes maxL rt1)))
    (hy : y.cls = own ∧ y.cls ≠ "java/lang/invoke/MethodHandle" ∧ y.cls ≠ "java/lang/invoke/VarHandle" ∧ (parseMethodDescriptor y.desc).map (fun d => d.parameters.length) = some n) (hR : rm.frames + 1 ≤ R.frames ∧ 8 + (maxL + 11) + rm.locals ≤ R.locals) (hrc : rm.cells = 0) (hrs : rm.slots = 0) (hn : As.length = n) (hst : st0 = As.reverse ++ .ref h0 :: st) (hcat : (st.map fun v => v.category).sum ≤ 8) (hd : decode cc pc = .ok (.invokevirtual index, 3)) (hf : kc ≤ R.cells ∧ ks ≤ R.slots)
    (kk : ∀ (r : Int32) (σ1 : ckS), post r σ1 → GG p l e R s m args below meth c Q D wf A nL kc ks (pc + 3) (lv) (.int r :: st) (σ1)) : GG p l e R s m args below meth c Q D wf A nL kc ks (pc) (lv) (st0) (σ) := by
  intro H locs ls h1 h2 h3 h4
  obtain ⟨fs, e0, -⟩ := S.2.2.2.2 σ
  have hFc := ck_free h2 h3 C.2.2.2.2.2.1
  refine va_calli (va_runV (As := As) (rest := st) ⟨C.1, C.2.1, C.2.2.1, C.2.2.2.1, C.2.2.2.2.1⟩ (hM H.size) (cwV n C.2.2.2.2.1 hG rfl hrc hrs hy hR) ⟨ck_blind _ _, va_recv S.2.1 h1 S.1.1 e0, fun U hU hW => ⟨rfl, by rw [hU], by rw [hU]; exact h1, va_K.moved hW.alike S.2.1, h2.weaken (fun _ _ _ _ => trivial)⟩⟩ rfl hn h4.1.1 hst (lv_room hcat) hd hf) h3 (fun q _ h => hFc q h) hFc (fun r u t H1 locs1 ht hvm hw hB hz hk hS => ?_)
  exact kk r u hw H1 locs1 ls (ht ▸ hB.1) (hB.2.weaken (fun k q _ h => hFc q.1 h)) hS h4
theorem gg_callV (C : gC p c s m args meth A cc nL own rt) (S : gS s D wf own ci T N ty h0 ad cI cZ kd len) {y : MethodName} {bytes : ByteArray} {maxL n index : Nat} {rm : Room} {post : ckS → Prop} (As : List Value) {st0 : List Value} (hM : ckV l y bytes maxL rm D wf cI cZ (.ref h0 :: As) σ post) (hG : GoodIn lw_all (wsV own index own y (ws_ y bytes maxL none)))
    (hy : y.cls = own ∧ y.cls ≠ "java/lang/invoke/MethodHandle" ∧ y.cls ≠ "java/lang/invoke/VarHandle" ∧ (parseMethodDescriptor y.desc).map (fun d => d.parameters.length) = some n) (hR : rm.frames + 1 ≤ R.frames ∧ 8 + (maxL + 11) + rm.locals ≤ R.locals) (hrc : rm.cells = 0) (hrs : rm.slots = 0) (hn : As.length = n) (hst : st0 = As.reverse ++ .ref h0 :: st) (hcat : (st.map fun v => v.category).sum ≤ 8) (hd : decode cc pc = .ok (.invokevirtual index, 3)) (hf : kc ≤ R.cells ∧ ks ≤ R.slots)
    (kk : ∀ (σ1 : ckS), post σ1 → GG p l e R s m args below meth c Q D wf A nL kc ks (pc + 3) (lv) (st) (σ1)) : GG p l e R s m args below meth c Q D wf A nL kc ks (pc) (lv) (st0) (σ) := by
  intro H locs ls h1 h2 h3 h4
  obtain ⟨fs, e0, -⟩ := S.2.2.2.2 σ
  have hFc := ck_free h2 h3 C.2.2.2.2.2.1
  refine va_callv (va_runV (As := As) (rest := st) ⟨C.1, C.2.1, C.2.2.1, C.2.2.2.1, C.2.2.2.2.1⟩ (hM H.size) (cwV n C.2.2.2.2.1 hG rfl hrc hrs hy hR) ⟨ck_blind _ _, va_recv S.2.1 h1 S.1.1 e0, fun U hU hW => ⟨rfl, by rw [hU], by rw [hU]; exact h1, va_K.moved hW.alike S.2.1, h2.weaken (fun _ _ _ _ => trivial)⟩⟩ rfl hn h4.1.1 hst (lv_room hcat) hd hf) h3 (fun q _ h => hFc q h) hFc (fun u t H1 locs1 ht hvm hw hB hz hk hS => ?_)
  exact kk u hw H1 locs1 ls (ht ▸ hB.1) (hB.2.weaken (fun k q _ h => hFc q.1 h)) hS h4
theorem gg_callS (C : gC p c s m args meth A cc nL own rt) {y : MethodName} {bytes : ByteArray} {maxL n index : Nat} {rt1 : Option FieldType} {rm : Room} {post : Int32 → Prop} (As : List Value) {st0 : List Value} (hM : ckT l y bytes maxL rt1 rm As post) (hG : GoodIn lw_all (va_wsS own index y (ws_ y bytes maxL rt1)))
    (hy : y.cls ≠ "java/lang/invoke/MethodHandle" ∧ y.cls ≠ "java/lang/invoke/VarHandle" ∧ (parseMethodDescriptor y.desc).map (fun d => d.parameters.length) = some n) (hR : rm.frames + 1 ≤ R.frames ∧ 8 + (maxL + 11) + rm.locals ≤ R.locals) (hrc : rm.cells = 0) (hrs : rm.slots = 0) (hn : As.length = n) (hst : st0 = As.reverse ++ st) (hcat : (st.map fun v => v.category).sum ≤ 8) (hd : decode cc pc = .ok (.invokestatic index, 3)) (hf : kc ≤ R.cells ∧ ks ≤ R.slots)
    (kk : ∀ (r : Int32), post r → GG p l e R s m args below meth c Q D wf A nL kc ks (pc + 3) (lv) (.int r :: st) (σ)) : GG p l e R s m args below meth c Q D wf A nL kc ks (pc) (lv) (st0) (σ) := by
  intro H locs ls h1 h2 h3 h4
  have hFc : ∀ q, va_A [] H.size q → A q := by
    intro q h
    rcases h with ⟨k, e, h⟩ | h
    · simp at h
    · exact C.2.2.2.2.2.1 q (Nat.le_trans h3.1 h)
  refine va_calli (va_runS (As := As) (rest := st) ⟨C.1, C.2.1, C.2.2.1, C.2.2.2.1, C.2.2.2.2.1⟩ (hM H.size) (va_cwS n C.2.2.2.2.1 hG rfl hrc hrs hy hR) ⟨fun a U g mk q => q, fun U hU hW => ⟨rfl, by show U.heap.size = H.size; rw [hU]⟩⟩ rfl hn h4.1.1 hst (lv_room hcat) hd hf) h3 (fun q _ h => hFc q h) hFc (fun r u t H1 locs1 ht hvm hw hB hz hk hS => ?_)
  refine kk r hw H1 locs1 ls (h1.kept (fun k q hq => hk q.1 (h1 k q hq).lt (fun z => ?_))) h2 hS h4
  have hlt := (h1 k q hq).lt
  rcases z with ⟨k, e, h⟩ | h
  · simp at h
  · omega
theorem gg_iret (C : gC p c s m args meth A cc nL own (some .int)) {post : Int32 → ckS → Prop} {v : Int32} (hd : decode cc pc = .ok (.ireturn, 1)) (hp : post v σ) : GG p l e R s m args below meth c (MQ below (va_Qi post (ckB D wf A) A) args s kc ks A) D wf A nL kc ks pc lv [.int v] σ := fun H locs ls h1 h2 h3 h4 => W.iret C.1 C.2.1 C.2.2.2.2.2.2.1 (fun t ht hW => ⟨⟨v, σ, rfl, hp, by rw [ht]; exact h1, h2⟩, h3.F ht⟩) h3.2.2 hd (hlocks := C.2.2.2.2.2.2.2)
theorem gg_zret (C : gC p c s m args meth A cc nL own (some .boolean)) {post : Int32 → ckS → Prop} {v : Int32} (hn : narrow .boolean (.int v) = .int v) (hd : decode cc pc = .ok (.ireturn, 1)) (hp : post v σ) : GG p l e R s m args below meth c (MQ below (va_Qi post (fun _ _ => True) A) args s kc ks A) D wf A nL kc ks pc lv [.int v] σ := fun H locs ls h1 h2 h3 h4 => W.zret C.1 C.2.1 C.2.2.2.2.2.2.1 hn (fun t ht hW => ⟨⟨v, σ, rfl, hp, trivial⟩, h3.F ht⟩) h3.2.2 hd (hlocks := C.2.2.2.2.2.2.2)
theorem gg_vret (C : gC p c s m args meth A cc nL own none) {post : ckS → Prop} (hd : decode cc pc = .ok (.return_, 1)) (hp : post σ) : GG p l e R s m args below meth c (MQ below (va_Qv post (ckB D wf A) A) args s kc ks A) D wf A nL kc ks pc lv [] σ := fun H locs ls h1 h2 h3 h4 => W.vret C.1 C.2.1 C.2.2.2.2.2.2.1 (fun t ht hW => ⟨⟨σ, rfl, hp, by rw [ht]; exact h1, h2⟩, h3.F ht⟩) h3.2.2 hd (hlocks := C.2.2.2.2.2.2.2)
end GROWS
/-- a contract out of a walk of the body -/
theorem gg_inI {l : Launch} {y : MethodName} {cc : ByteArray} {nL : Nat} {rt : Option FieldType} {rm : Room} {D : va_G} {wf : ckS → va_W} {cI cZ : ClassId} {as : List Value} {σ : ckS} {post : Int32 → ckS → Prop} (hy : plainName y.cls = true) (hc : ∀ v ∈ as, v.category = 1) (hn : (lg_sl as).length ≤ nL)
    (body : ∀ (p : Program) (e : Env) (s : State) (m : MethodId) (args : Array Value) (below : List Frame) (meth : Method) (c : Code) (A : Nat → Prop), gC p c s m args meth A cc nL y.cls rt → va_K D vwCl [(cI, .int), (cZ, .boolean)] s → GG p l e rm s m args below meth c (MQ below (va_Qi post (ckB D wf A) A) args s 0 0 A) D wf A nL 0 0 0 (lvIn as nL) [] σ) : ckI l y cc nL rt rm D wf cI cZ as σ post := by
  intro sz
  refine Met.ofW (cc := cc) (maxL := nL) (ret := rt) hy rfl ?_
  intro p e s m args below meth c s₁ B hml hv
  obtain ⟨rfl, hsz, hP, hK, hD0⟩ := hv
  have hts := atoms_spec (ws := ws_ y cc nL rt) B.pre
  have hts : ∀ w ∈ lw_all, w.before _ s = true := fun w h => hts w (List.mem_cons_of_mem _ h)
  have hown : s.vm.findClass y.cls = some m.cls := findClass_of_methodNamed B.named
  subst hsz
  have hD := hD0.self (sz := s.heap.size)
  rw [lg_entry_eq]
  exact body p e s m _ below meth c _ ⟨B.exec, B.bytes, hml, hown, hts, fun q h => Or.inr h, B.returns, B.notSynchronized⟩ hK s.heap [] _ hP hD va_S.rf (lvH_in hc hn)
theorem gg_inV {l : Launch} {y : MethodName} {cc : ByteArray} {nL : Nat} {rm : Room} {D : va_G} {wf : ckS → va_W} {cI cZ : ClassId} {as : List Value} {σ : ckS} {post : ckS → Prop} (hy : plainName y.cls = true) (hc : ∀ v ∈ as, v.category = 1) (hn : (lg_sl as).length ≤ nL)
    (body : ∀ (p : Program) (e : Env) (s : State) (m : MethodId) (args : Array Value) (below : List Frame) (meth : Method) (c : Code) (A : Nat → Prop), gC p c s m args meth A cc nL y.cls none → va_K D vwCl [(cI, .int), (cZ, .boolean)] s → GG p l e rm s m args below meth c (MQ below (va_Qv post (ckB D wf A) A) args s 0 0 A) D wf A nL 0 0 0 (lvIn as nL) [] σ) : ckV l y cc nL rm D wf cI cZ as σ post := by
  intro sz
  refine Met.ofW (cc := cc) (maxL := nL) (ret := none) hy rfl ?_
  intro p e s m args below meth c s₁ B hml hv
  obtain ⟨rfl, hsz, hP, hK, hD0⟩ := hv
  have hts := atoms_spec (ws := ws_ y cc nL none) B.pre
  have hts : ∀ w ∈ lw_all, w.before _ s = true := fun w h => hts w (List.mem_cons_of_mem _ h)
  have hown : s.vm.findClass y.cls = some m.cls := findClass_of_methodNamed B.named
  subst hsz
  have hD := hD0.self (sz := s.heap.size)
  rw [lg_entry_eq]
  exact body p e s m _ below meth c _ ⟨B.exec, B.bytes, hml, hown, hts, fun q h => Or.inr h, B.returns, B.notSynchronized⟩ hK s.heap [] _ hP hD va_S.rf (lvH_in hc hn)
theorem gg_inT {l : Launch} {y : MethodName} {cc : ByteArray} {nL : Nat} {rt : Option FieldType} {rm : Room} {as : List Value} {post : Int32 → Prop} (hy : plainName y.cls = true) (hc : ∀ v ∈ as, v.category = 1) (hn : (lg_sl as).length ≤ nL)
    (body : ∀ (p : Program) (e : Env) (s : State) (m : MethodId) (args : Array Value) (below : List Frame) (meth : Method) (c : Code) (A : Nat → Prop), gC p c s m args meth A cc nL y.cls rt → GG p l e rm s m args below meth c (MQ below (va_Qi (fun (r : Int32) (_ : ckS) => post r) (fun _ _ => True) A) args s 0 0 A) (fun _ => 0, fun _ _ => 0) (fun _ => []) A nL 0 0 0 (lvIn as nL) [] (fun _ _ => 0)) : ckT l y cc nL rt rm as post := by
  intro sz
  refine Met.ofW (cc := cc) (maxL := nL) (ret := rt) hy rfl ?_
  intro p e s m args below meth c s₁ B hml hv
  obtain ⟨rfl, hsz⟩ := hv
  have hts := atoms_spec (ws := ws_ y cc nL rt) B.pre
  have hts : ∀ w ∈ lw_all, w.before _ s = true := fun w h => hts w (List.mem_cons_of_mem _ h)
  have hown : s.vm.findClass y.cls = some m.cls := findClass_of_methodNamed B.named
  subst hsz
  rw [lg_entry_eq]
  exact body p e s m _ below meth c _ ⟨B.exec, B.bytes, hml, hown, hts, fun q h => Or.inr h, B.returns, B.notSynchronized⟩ s.heap [] _ (fun k q h => by simp at h) ⟨fun i j p q h => by simp at h, fun k q h => by simp at h⟩ va_S.rf (lvH_in hc hn)
end
section
/-! the picture of a CheckpointedStore: its object, then its arrays -/
def csKd (k : Nat) : Nat := ([1, 1, 1, 1, 1, 1, 1, 1, 2, 0, 1, 2, 2, 1, 1, 1, 1, 0, 0, 0] : List Nat).getD k 3
def csLen (k : Nat) : Nat := ([64, 64, 64, 16, 192, 192, 192, 48, 48, 0, 5, 5, 5, 20, 20, 20, 5, 0, 0, 0] : List Nat).getD k 0
abbrev csF (ad : Nat → Nat) (σ : ckS) : List Value := [.ref (ad 0), .ref (ad 1), .ref (ad 2), .ref (ad 3), .ref (ad 4), .ref (ad 5), .ref (ad 6), .ref (ad 7), .ref (ad 8), .int (σ 9 0), .ref (ad 10), .ref (ad 11), .ref (ad 12), .ref (ad 13), .ref (ad 14), .ref (ad 15), .ref (ad 16), .int (σ 17 0), .int (σ 18 0), .int (σ 19 0)]
def csW (h0 : Nat) (ad : Nat → Nat) (cI cZ : ClassId) (σ : ckS) : va_W := [(h0, .inr (0, csF ad σ)), (ad 0, .inl (cI, 64, .inl (σ 0))), (ad 1, .inl (cI, 64, .inl (σ 1))), (ad 2, .inl (cI, 64, .inl (σ 2))), (ad 3, .inl (cI, 16, .inl (σ 3))), (ad 4, .inl (cI, 192, .inl (σ 4))), (ad 5, .inl (cI, 192, .inl (σ 5))), (ad 6, .inl (cI, 192, .inl (σ 6))), (ad 7, .inl (cI, 48, .inl (σ 7))), (ad 8, .inl (cZ, 48, .inl (σ 8))), (ad 10, .inl (cI, 5, .inl (σ 10))), (ad 11, .inl (cZ, 5, .inl (σ 11))), (ad 12, .inl (cZ, 5, .inl (σ 12))), (ad 13, .inl (cI, 20, .inl (σ 13))), (ad 14, .inl (cI, 20, .inl (σ 14))), (ad 15, .inl (cI, 20, .inl (σ 15))), (ad 16, .inl (cI, 5, .inl (σ 16)))]
set_option maxRecDepth 100000 in
theorem csSh (h0 : Nat) (ad : Nat → Nat) (cI cZ : ClassId) : ckSh (csW h0 ad cI cZ) h0 ad 0 cI cZ csKd csLen 20 := by
  refine ⟨fun σ k hk => ?_, fun σ k hk => ?_, fun σ => ⟨csF ad σ, rfl, rfl, fun k hk => ?_, fun k hk => ?_⟩⟩
  · match k, hk with
    | 0, _ => exact ⟨1, rfl, fun f => rfl⟩
    | 1, _ => exact ⟨2, rfl, fun f => rfl⟩
    | 2, _ => exact ⟨3, rfl, fun f => rfl⟩
    | 3, _ => exact ⟨4, rfl, fun f => rfl⟩
    | 4, _ => exact ⟨5, rfl, fun f => rfl⟩
    | 5, _ => exact ⟨6, rfl, fun f => rfl⟩
    | 6, _ => exact ⟨7, rfl, fun f => rfl⟩
    | 7, _ => exact ⟨8, rfl, fun f => rfl⟩
    | 8, hk => exact absurd hk (by decide)
    | 9, hk => exact absurd hk (by decide)
    | 10, _ => exact ⟨10, rfl, fun f => rfl⟩
    | 11, hk => exact absurd hk (by decide)
    | 12, hk => exact absurd hk (by decide)
    | 13, _ => exact ⟨13, rfl, fun f => rfl⟩
    | 14, _ => exact ⟨14, rfl, fun f => rfl⟩
    | 15, _ => exact ⟨15, rfl, fun f => rfl⟩
    | 16, _ => exact ⟨16, rfl, fun f => rfl⟩
    | 17, hk => exact absurd hk (by decide)
    | 18, hk => exact absurd hk (by decide)
    | 19, hk => exact absurd hk (by decide)
    | n + 20, hk => exact absurd hk (by show ¬ (3 = 1); decide)
  · match k, hk with
    | 0, hk => exact absurd hk (by decide)
    | 1, hk => exact absurd hk (by decide)
    | 2, hk => exact absurd hk (by decide)
    | 3, hk => exact absurd hk (by decide)
    | 4, hk => exact absurd hk (by decide)
    | 5, hk => exact absurd hk (by decide)
    | 6, hk => exact absurd hk (by decide)
    | 7, hk => exact absurd hk (by decide)
    | 8, _ => exact ⟨9, rfl, fun f => rfl⟩
    | 9, hk => exact absurd hk (by decide)
    | 10, hk => exact absurd hk (by decide)
    | 11, _ => exact ⟨11, rfl, fun f => rfl⟩
    | 12, _ => exact ⟨12, rfl, fun f => rfl⟩
    | 13, hk => exact absurd hk (by decide)
    | 14, hk => exact absurd hk (by decide)
    | 15, hk => exact absurd hk (by decide)
    | 16, hk => exact absurd hk (by decide)
    | 17, hk => exact absurd hk (by decide)
    | 18, hk => exact absurd hk (by decide)
    | 19, hk => exact absurd hk (by decide)
    | n + 20, hk => exact absurd hk (by show ¬ (3 = 2); decide)
  · match k, hk with
    | 0, _ => exact rfl
    | 1, _ => exact rfl
    | 2, _ => exact rfl
    | 3, _ => exact rfl
    | 4, _ => exact rfl
    | 5, _ => exact rfl
    | 6, _ => exact rfl
    | 7, _ => exact rfl
    | 8, _ => exact rfl
    | 9, hk => exact absurd hk (by decide)
    | 10, _ => exact rfl
    | 11, _ => exact rfl
    | 12, _ => exact rfl
    | 13, _ => exact rfl
    | 14, _ => exact rfl
    | 15, _ => exact rfl
    | 16, _ => exact rfl
    | 17, hk => exact absurd hk (by decide)
    | 18, hk => exact absurd hk (by decide)
    | 19, hk => exact absurd hk (by decide)
    | n + 20, hk => exact absurd hk (by show ¬ (3 = 1 ∨ 3 = 2); decide)
  · match k, hk with
    | 0, hk => exact absurd hk (by decide)
    | 1, hk => exact absurd hk (by decide)
    | 2, hk => exact absurd hk (by decide)
    | 3, hk => exact absurd hk (by decide)
    | 4, hk => exact absurd hk (by decide)
    | 5, hk => exact absurd hk (by decide)
    | 6, hk => exact absurd hk (by decide)
    | 7, hk => exact absurd hk (by decide)
    | 8, hk => exact absurd hk (by decide)
    | 9, _ => exact ⟨rfl, fun v => rfl⟩
    | 10, hk => exact absurd hk (by decide)
    | 11, hk => exact absurd hk (by decide)
    | 12, hk => exact absurd hk (by decide)
    | 13, hk => exact absurd hk (by decide)
    | 14, hk => exact absurd hk (by decide)
    | 15, hk => exact absurd hk (by decide)
    | 16, hk => exact absurd hk (by decide)
    | 17, _ => exact ⟨rfl, fun v => rfl⟩
    | 18, _ => exact ⟨rfl, fun v => rfl⟩
    | 19, _ => exact ⟨rfl, fun v => rfl⟩
    | n + 20, hk => exact absurd hk (by show ¬ (3 = 0); decide)
theorem csS {s : State} {D : va_G} {h0 : Nat} {ad : Nat → Nat} {cI cZ : ClassId} (hK : va_K D vwCl [(cI, .int), (cZ, .boolean)] s) : gS s D (csW h0 ad cI cZ) RX0 0 TX0 20 tyX0 h0 ad cI cZ csKd csLen := ⟨ckCl0, hK, csSh h0 ad cI cZ⟩
/-! the picture of a CheckpointedStoreModel: its object, then its arrays -/
def cmKd (k : Nat) : Nat := ([2, 1, 0, 2, 1, 2, 1] : List Nat).getD k 3
def cmLen (k : Nat) : Nat := ([64, 64, 0, 64, 64, 64, 64] : List Nat).getD k 0
abbrev cmF (ad : Nat → Nat) (σ : ckS) : List Value := [.ref (ad 0), .ref (ad 1), .int (σ 2 0), .ref (ad 3), .ref (ad 4), .ref (ad 5), .ref (ad 6)]
def cmW (h0 : Nat) (ad : Nat → Nat) (cI cZ : ClassId) (σ : ckS) : va_W := [(h0, .inr (1, cmF ad σ)), (ad 0, .inl (cZ, 64, .inl (σ 0))), (ad 1, .inl (cI, 64, .inl (σ 1))), (ad 3, .inl (cZ, 64, .inl (σ 3))), (ad 4, .inl (cI, 64, .inl (σ 4))), (ad 5, .inl (cZ, 64, .inl (σ 5))), (ad 6, .inl (cI, 64, .inl (σ 6)))]
set_option maxRecDepth 100000 in
theorem cmSh (h0 : Nat) (ad : Nat → Nat) (cI cZ : ClassId) : ckSh (cmW h0 ad cI cZ) h0 ad 1 cI cZ cmKd cmLen 7 := by
  refine ⟨fun σ k hk => ?_, fun σ k hk => ?_, fun σ => ⟨cmF ad σ, rfl, rfl, fun k hk => ?_, fun k hk => ?_⟩⟩
  · match k, hk with
    | 0, hk => exact absurd hk (by decide)
    | 1, _ => exact ⟨2, rfl, fun f => rfl⟩
    | 2, hk => exact absurd hk (by decide)
    | 3, hk => exact absurd hk (by decide)
    | 4, _ => exact ⟨4, rfl, fun f => rfl⟩
    | 5, hk => exact absurd hk (by decide)
    | 6, _ => exact ⟨6, rfl, fun f => rfl⟩
    | n + 7, hk => exact absurd hk (by show ¬ (3 = 1); decide)
  · match k, hk with
    | 0, _ => exact ⟨1, rfl, fun f => rfl⟩
    | 1, hk => exact absurd hk (by decide)
    | 2, hk => exact absurd hk (by decide)
    | 3, _ => exact ⟨3, rfl, fun f => rfl⟩
    | 4, hk => exact absurd hk (by decide)
    | 5, _ => exact ⟨5, rfl, fun f => rfl⟩
    | 6, hk => exact absurd hk (by decide)
    | n + 7, hk => exact absurd hk (by show ¬ (3 = 2); decide)
  · match k, hk with
    | 0, _ => exact rfl
    | 1, _ => exact rfl
    | 2, hk => exact absurd hk (by decide)
    | 3, _ => exact rfl
    | 4, _ => exact rfl
    | 5, _ => exact rfl
    | 6, _ => exact rfl
    | n + 7, hk => exact absurd hk (by show ¬ (3 = 1 ∨ 3 = 2); decide)
  · match k, hk with
    | 0, hk => exact absurd hk (by decide)
    | 1, hk => exact absurd hk (by decide)
    | 2, _ => exact ⟨rfl, fun v => rfl⟩
    | 3, hk => exact absurd hk (by decide)
    | 4, hk => exact absurd hk (by decide)
    | 5, hk => exact absurd hk (by decide)
    | 6, hk => exact absurd hk (by decide)
    | n + 7, hk => exact absurd hk (by show ¬ (3 = 0); decide)
theorem cmS {s : State} {D : va_G} {h0 : Nat} {ad : Nat → Nat} {cI cZ : ClassId} (hK : va_K D vwCl [(cI, .int), (cZ, .boolean)] s) : gS s D (cmW h0 ad cI cZ) RX1 1 TX1 7 tyX1 h0 ad cI cZ cmKd cmLen := ⟨ckCl1, hK, cmSh h0 ad cI cZ⟩
/-- a loop from 0 to b whose state is known at every round -/
theorem gg_loop {F : Nat → ckL → List Value → ckS → Prop} (pc : Nat) (st : List Value) (lvf : Nat → ckL) (sf : Nat → ckS) (b : Nat) (step : ∀ i, i ≤ b → (i < b → F pc (lvf (i + 1)) st (sf (i + 1))) → F pc (lvf i) st (sf i)) : F pc (lvf 0) st (sf 0) := by
  have key : ∀ (k i : Nat), i ≤ b → b < i + k → F pc (lvf i) st (sf i) := by
    intro k
    induction k with
    | zero => intro i h1 h2; omega
    | succ k ih => intro i h1 h2; exact step i h1 (fun h => ih (i + 1) (by omega) (by omega))
  exact key (b + 1) 0 (Nat.zero_le _) (by omega)
/-- a loop with an invariant over what changes from round to round -/
theorem gg_loopX {X : Type} {F : Nat → ckL → List Value → ckS → Prop} (pc : Nat) (st : List Value) (lvf : Nat → X → ckL) (sf : X → ckS) (I : Nat → X → Prop) (b : Nat) (step : ∀ i x, i ≤ b → I i x → (∀ x1, i < b → I (i + 1) x1 → F pc (lvf (i + 1) x1) st (sf x1)) → F pc (lvf i x) st (sf x)) (x : X) (i0 : Nat) (hi0 : i0 ≤ b) (h0 : I i0 x) : F pc (lvf i0 x) st (sf x) := by
  have key : ∀ (k i : Nat) (x : X), i ≤ b → b < i + k → I i x → F pc (lvf i x) st (sf x) := by
    intro k
    induction k with
    | zero => intro i x h1 h2; omega
    | succ k ih => intro i x h1 h2 h3; exact step i x h1 h3 (fun x1 h hx => ih (i + 1) x1 (by omega) (by omega) hx)
  exact key (b + 1) i0 x hi0 (by omega) h0
end
section
/-! THE PLAIN LAW, first half: what the store's arrays stand for: three views of sixteen nodes (present, open, settled), and which steps keep them -/
abbrev ckR : Type := Nat → Int32
/-- a node's record out of four arrays: 0 its version, 1..4 numbers, 5..8 targets, 9..12 stamps -/
def rc (v a b c : Nat → Int32) (x : Nat) : ckR := fun j => if j = 0 then v x else if j < 5 then a (4 * x + (j - 1)) else if j < 9 then b (4 * x + (j - 5)) else if j < 13 then c (4 * x + (j - 9)) else 0
def ckHm (σ : ckS) (n : Nat) : ckR := rc (σ 3) (σ 0) (σ 1) (σ 2) n
def ckLg (σ : ckS) (n : Nat) : ckR := rc (σ 7) (σ 4) (σ 5) (σ 6) n
def ckFr (σ : ckS) (n : Nat) : ckR := rc (σ 16) (σ 13) (σ 14) (σ 15) n
def updR (g : Nat → ckR) (k : Nat) (r : ckR) : Nat → ckR := fun j => if j = k then r else g j
def oI : Option Nat → Int32
  | none => -1
  | some m => nI m
def nlk (L : Nat → Int32) (lg : Nat → ckR) (o : Option Nat) (n : Nat) (d : ckR) : ckR := match o with
  | none => d
  | some m => if L (16 * m + n) = 1 then lg (16 * m + n) else d
def ckSt (L : Nat → Int32) (lg hm : Nat → ckR) (mk : Option Nat) (n : Nat) : ckR := nlk L lg mk n (hm n)
def ckOb (L : Nat → Int32) (lg hm : Nat → ckR) (mk op : Option Nat) (n : Nat) : ckR := nlk L lg op n (ckSt L lg hm mk n)
def ckNw (L : Nat → Int32) (lg hm : Nat → ckR) (mk op : Option Nat) (pl n : Nat) : ckR := nlk L lg (some pl) n (ckOb L lg hm mk op n)
def ckWf (L ND DY FZ : Nat → Int32) (mk op : Option Nat) (pl : Nat) : Prop :=
  pl < 3 ∧ (∀ m, mk = some m → m < 3 ∧ m ≠ pl) ∧ (∀ o, op = some o → o < 3 ∧ o ≠ pl ∧ mk ≠ some o) ∧
  (∀ f, f < 5 → ND f = -1 ∨ ∃ n, n < 16 ∧ ND f = nI n) ∧
  (∀ f g n, f < 5 → g < 5 → n < 16 → ND f = nI n → ND g = nI n → f = g) ∧
  (∀ f, f < 5 → DY f = 0 ∨ DY f = 1) ∧ (∀ f, f < 5 → FZ f = 0 ∨ FZ f = 1) ∧
  (∀ f, f < 5 → FZ f = 1 → DY f = 1 ∧ op ≠ none) ∧
  (∀ f n, f < 5 → n < 16 → FZ f = 1 → ND f = nI n → L (16 * pl + n) = 0) ∧
  (∀ f, f < 5 → DY f = 1 → ND f ≠ -1) ∧
  (∀ e, e < 48 → L e = 0 ∨ L e = 1)
def ckRp (L : Nat → Int32) (lg hm fr : Nat → ckR) (ND DY FZ : Nat → Int32) (mk op : Option Nat) (pl : Nat) (P O S : Nat → ckR) : Prop :=
  (∀ n, n < 16 → ckSt L lg hm mk n = S n) ∧
  (∀ n, n < 16 → (∀ f, f < 5 → ND f = nI n → FZ f = 0) → op ≠ none → ckOb L lg hm mk op n = O n) ∧
  (∀ n, n < 16 → (∀ f, f < 5 → ND f = nI n → DY f = 0) → ckNw L lg hm mk op pl n = P n) ∧
  (∀ f n, f < 5 → n < 16 → ND f = nI n → fr f = P n) ∧
  (∀ f n, f < 5 → n < 16 → ND f = nI n → FZ f = 1 → fr f = O n)
theorem up_s {f : Nat → Int32} {k : Nat} {x : Int32} : upd f k x k = x := by simp [upd]
theorem up_n {f : Nat → Int32} {k j : Nat} {x : Int32} (h : j ≠ k) : upd f k x j = f j := by simp [upd, h]
theorem ur_s {f : Nat → ckR} {k : Nat} {x : ckR} : updR f k x k = x := by simp [updR]
theorem ur_n {f : Nat → ckR} {k j : Nat} {x : ckR} (h : j ≠ k) : updR f k x j = f j := by simp [updR, h]
theorem i_01 : ¬ (0 : Int32) = 1 := by decide
theorem i_10 : ¬ (1 : Int32) = 0 := by decide
theorem n_inj {a b : Nat} (ha : a < 16) (hb : b < 16) (h : nI a = nI b) : a = b := (nI_eq (by omega) (by omega)).mp h
theorem n_m1 {a : Nat} (ha : a < 16) : nI a ≠ -1 := by
  intro h
  have h1 := nI_toInt (n := a) (by omega)
  rw [h] at h1
  have h2 : (-1 : Int32).toInt = -1 := by decide
  rw [h2] at h1
  omega
theorem nlk_none {L : Nat → Int32} {lg : Nat → ckR} {n : Nat} {d : ckR} : nlk L lg none n d = d := rfl
theorem nlk_1 {L : Nat → Int32} {lg : Nat → ckR} {m n : Nat} {d : ckR} (h : L (16 * m + n) = 1) : nlk L lg (some m) n d = lg (16 * m + n) := by simp [nlk, h]
theorem nlk_0 {L : Nat → Int32} {lg : Nat → ckR} {m n : Nat} {d : ckR} (h : L (16 * m + n) = 0) : nlk L lg (some m) n d = d := by
  have : ¬ L (16 * m + n) = 1 := by rw [h]; exact i_01
  simp [nlk, this]
theorem nlk_c {L L1 : Nat → Int32} {lg lg1 : Nat → ckR} {o : Option Nat} {n : Nat} {d d1 : ckR} (h : ∀ m, o = some m → L1 (16 * m + n) = L (16 * m + n) ∧ lg1 (16 * m + n) = lg (16 * m + n)) (hd : d1 = d) : nlk L1 lg1 o n d1 = nlk L lg o n d := by
  subst hd
  cases o with
  | none => rfl
  | some m =>
    obtain ⟨h1, h2⟩ := h m rfl
    simp only [nlk, h1, h2]
section IV
variable {L ND DY FZ : Nat → Int32} {lg hm fr : Nat → ckR} {mk op : Option Nat} {pl : Nat} {P O S : Nat → ckR}
/-- a frozen frame goes to the open log -/
theorem iv_saveFz (w : ckWf L ND DY FZ mk op pl) (r : ckRp L lg hm fr ND DY FZ mk op pl P O S) {f n o : Nat} (hf : f < 5) (hn : n < 16) (hN : ND f = nI n) (hF : FZ f = 1) (ho : op = some o) :
    ckWf (upd L (16 * o + n) 1) ND (upd DY f 0) (upd FZ f 0) mk op pl ∧ ckRp (upd L (16 * o + n) 1) (updR lg (16 * o + n) (fr f)) hm fr ND (upd DY f 0) (upd FZ f 0) mk op pl P O S := by
  obtain ⟨w1, w2, w3, w4, w5, w6, w7, w8, w9, w10, w11⟩ := w
  obtain ⟨r1, r2, r3, r4, r5⟩ := r
  obtain ⟨o1, o2, o3⟩ := w3 o ho
  have hst : ∀ n1, n1 < 16 → ckSt (upd L (16 * o + n) 1) (updR lg (16 * o + n) (fr f)) hm mk n1 = ckSt L lg hm mk n1 := by
    intro n1 h1
    refine nlk_c (fun m hm => ?_) rfl
    have : m ≠ o := fun q => o3 (by rw [hm, q])
    exact ⟨up_n (by omega), ur_n (by omega)⟩
  have hobn : ckOb (upd L (16 * o + n) 1) (updR lg (16 * o + n) (fr f)) hm mk op n = fr f := by
    unfold ckOb
    rw [ho, nlk_1 up_s, ur_s]
  have hob : ∀ n1, n1 < 16 → n1 ≠ n → ckOb (upd L (16 * o + n) 1) (updR lg (16 * o + n) (fr f)) hm mk op n1 = ckOb L lg hm mk op n1 := by
    intro n1 h1 h2
    refine nlk_c (fun m hm => ?_) (hst n1 h1)
    rw [ho] at hm
    have : m = o := by simpa using hm.symm
    subst this
    exact ⟨up_n (by omega), ur_n (by omega)⟩
  refine ⟨⟨w1, w2, w3, w4, w5, fun g hg => ?_, fun g hg => ?_, fun g hg h => ?_, fun g n1 hg h1 h h2 => ?_, fun g hg h => ?_, fun e1 he => ?_⟩, fun n1 h1 => ?_, fun n1 h1 hc hop => ?_, fun n1 h1 hc => ?_, r4, fun g n1 hg h1 h2 h3 => ?_⟩
  · by_cases q : g = f
    · rw [q, up_s]; exact Or.inl rfl
    · rw [up_n q]; exact w6 g hg
  · by_cases q : g = f
    · rw [q, up_s]; exact Or.inl rfl
    · rw [up_n q]; exact w7 g hg
  · by_cases q : g = f
    · rw [q, up_s] at h; exact absurd h i_01
    · rw [up_n q] at h ⊢; exact w8 g hg h
  · by_cases q : g = f
    · rw [q, up_s] at h; exact absurd h i_01
    · rw [up_n q] at h
      rw [up_n (by omega)]; exact w9 g n1 hg h1 h h2
  · by_cases q : g = f
    · rw [q, up_s] at h; exact absurd h i_01
    · rw [up_n q] at h; exact w10 g hg h
  · by_cases q : e1 = 16 * o + n
    · rw [q, up_s]; exact Or.inr rfl
    · rw [up_n q]; exact w11 e1 he
  · rw [hst n1 h1]; exact r1 n1 h1
  · by_cases q : n1 = n
    · subst q; rw [hobn]; exact r5 f n1 hf h1 hN hF
    · rw [hob n1 h1 q]
      refine r2 n1 h1 (fun g hg h => ?_) hop
      have hgf : g ≠ f := fun z => q (n_inj h1 hn (by rw [← h, z, hN]))
      have := hc g hg h
      rwa [up_n hgf] at this
  · by_cases q : n1 = n
    · subst q
      unfold ckNw
      rw [nlk_0 (by rw [up_n (by omega)]; exact w9 f n1 hf h1 hF hN), hobn]
      exact r4 f n1 hf h1 hN
    · have e1 : ckNw (upd L (16 * o + n) 1) (updR lg (16 * o + n) (fr f)) hm mk op pl n1 = ckNw L lg hm mk op pl n1 := by
        refine nlk_c (fun m hm => ?_) (hob n1 h1 q)
        have : m = pl := by simpa using hm.symm
        exact ⟨up_n (by omega), ur_n (by omega)⟩
      rw [e1]
      refine r3 n1 h1 (fun g hg h => ?_)
      have hgf : g ≠ f := fun z => q (n_inj h1 hn (by rw [← h, z, hN]))
      have := hc g hg h
      rwa [up_n hgf] at this
  · by_cases q : g = f
    · rw [q, up_s] at h3; exact absurd h3 i_01
    · rw [up_n q] at h3; exact r5 g n1 hg h1 h2 h3
/-- a changed frame of the present generation goes to the present log -/
theorem iv_saveP (w : ckWf L ND DY FZ mk op pl) (r : ckRp L lg hm fr ND DY FZ mk op pl P O S) {f n : Nat} (hf : f < 5) (hn : n < 16) (hN : ND f = nI n) (hF : FZ f = 0) :
    ckWf (upd L (16 * pl + n) 1) ND (upd DY f 0) FZ mk op pl ∧ ckRp (upd L (16 * pl + n) 1) (updR lg (16 * pl + n) (fr f)) hm fr ND (upd DY f 0) FZ mk op pl P O S := by
  obtain ⟨w1, w2, w3, w4, w5, w6, w7, w8, w9, w10, w11⟩ := w
  obtain ⟨r1, r2, r3, r4, r5⟩ := r
  have hst : ∀ n1, n1 < 16 → ckSt (upd L (16 * pl + n) 1) (updR lg (16 * pl + n) (fr f)) hm mk n1 = ckSt L lg hm mk n1 := by
    intro n1 h1
    refine nlk_c (fun m hm => ?_) rfl
    have := (w2 m hm).2
    exact ⟨up_n (by omega), ur_n (by omega)⟩
  have hob : ∀ n1, n1 < 16 → ckOb (upd L (16 * pl + n) 1) (updR lg (16 * pl + n) (fr f)) hm mk op n1 = ckOb L lg hm mk op n1 := by
    intro n1 h1
    refine nlk_c (fun m hm => ?_) (hst n1 h1)
    have := (w3 m hm).2.1
    exact ⟨up_n (by omega), ur_n (by omega)⟩
  refine ⟨⟨w1, w2, w3, w4, w5, fun g hg => ?_, w7, fun g hg h => ?_, fun g n1 hg h1 h h2 => ?_, fun g hg h => ?_, fun e1 he => ?_⟩, fun n1 h1 => ?_, fun n1 h1 hc hop => ?_, fun n1 h1 hc => ?_, r4, r5⟩
  · by_cases q : g = f
    · rw [q, up_s]; exact Or.inl rfl
    · rw [up_n q]; exact w6 g hg
  · by_cases q : g = f
    · rw [q, hF] at h; exact absurd h i_01
    · rw [up_n q]; exact w8 g hg h
  · have hgf : g ≠ f := fun z => by rw [z, hF] at h; exact i_01 h
    have hnn : n1 ≠ n := fun z => hgf (w5 g f n1 hg hf h1 h2 (by rw [z]; exact hN))
    rw [up_n (by omega)]; exact w9 g n1 hg h1 h h2
  · by_cases q : g = f
    · rw [q, up_s] at h; exact absurd h i_01
    · rw [up_n q] at h; exact w10 g hg h
  · by_cases q : e1 = 16 * pl + n
    · rw [q, up_s]; exact Or.inr rfl
    · rw [up_n q]; exact w11 e1 he
  · rw [hst n1 h1]; exact r1 n1 h1
  · rw [hob n1 h1]; exact r2 n1 h1 hc hop
  · by_cases q : n1 = n
    · subst q
      unfold ckNw
      rw [nlk_1 up_s, ur_s]
      exact r4 f n1 hf h1 hN
    · have e1 : ckNw (upd L (16 * pl + n) 1) (updR lg (16 * pl + n) (fr f)) hm mk op pl n1 = ckNw L lg hm mk op pl n1 := by
        refine nlk_c (fun m hm => ?_) (hob n1 h1)
        have : m = pl := by simpa using hm.symm
        exact ⟨up_n (by omega), ur_n (by omega)⟩
      rw [e1]
      refine r3 n1 h1 (fun g hg h => ?_)
      have hgf : g ≠ f := fun z => q (n_inj h1 hn (by rw [← h, z, hN]))
      have := hc g hg h
      rwa [up_n hgf] at this
/-- a clean frame is dropped -/
theorem iv_drop (w : ckWf L ND DY FZ mk op pl) (r : ckRp L lg hm fr ND DY FZ mk op pl P O S) {f : Nat} (hf : f < 5) (hD : DY f = 0) (hF : FZ f = 0) :
    ckWf L (upd ND f (-1)) DY FZ mk op pl ∧ ckRp L lg hm fr (upd ND f (-1)) DY FZ mk op pl P O S := by
  obtain ⟨w1, w2, w3, w4, w5, w6, w7, w8, w9, w10, w11⟩ := w
  obtain ⟨r1, r2, r3, r4, r5⟩ := r
  have key : ∀ g n1, n1 < 16 → upd ND f (-1) g = nI n1 → g ≠ f ∧ ND g = nI n1 := by
    intro g n1 h1 h
    by_cases q : g = f
    · rw [q, up_s] at h; exact absurd h.symm (n_m1 h1)
    · rw [up_n q] at h; exact ⟨q, h⟩
  refine ⟨⟨w1, w2, w3, fun g hg => ?_, fun g g1 n1 hg hg1 h1 h2 h3 => ?_, w6, w7, w8, fun g n1 hg h1 h h2 => ?_, fun g hg h => ?_, w11⟩, r1, fun n1 h1 hc hop => ?_, fun n1 h1 hc => ?_, fun g n1 hg h1 h2 => ?_, fun g n1 hg h1 h2 h3 => ?_⟩
  · by_cases q : g = f
    · rw [q, up_s]; exact Or.inl rfl
    · rw [up_n q]; exact w4 g hg
  · exact w5 g g1 n1 hg hg1 h1 (key g n1 h1 h2).2 (key g1 n1 h1 h3).2
  · exact w9 g n1 hg h1 h (key g n1 h1 h2).2
  · have q : g ≠ f := fun z => by rw [z, hD] at h; exact i_01 h
    rw [up_n q]; exact w10 g hg h
  · refine r2 n1 h1 (fun g hg h => ?_) hop
    by_cases q : g = f
    · rw [q]; exact hF
    · exact hc g hg (by rw [up_n q]; exact h)
  · refine r3 n1 h1 (fun g hg h => ?_)
    by_cases q : g = f
    · rw [q]; exact hD
    · exact hc g hg (by rw [up_n q]; exact h)
  · exact r4 g n1 hg h1 (key g n1 h1 h2).2
  · exact r5 g n1 hg h1 (key g n1 h1 h2).2 h3
/-- a node's newest copy comes into an empty frame -/
theorem iv_load (w : ckWf L ND DY FZ mk op pl) (r : ckRp L lg hm fr ND DY FZ mk op pl P O S) {f n : Nat} (hf : f < 5) (hn : n < 16) (hE : ND f = -1) (hno : ∀ g, g < 5 → ND g ≠ nI n) :
    ckWf L (upd ND f (nI n)) (upd DY f 0) (upd FZ f 0) mk op pl ∧ ckRp L lg hm (updR fr f (ckNw L lg hm mk op pl n)) (upd ND f (nI n)) (upd DY f 0) (upd FZ f 0) mk op pl P O S := by
  obtain ⟨w1, w2, w3, w4, w5, w6, w7, w8, w9, w10, w11⟩ := w
  obtain ⟨r1, r2, r3, r4, r5⟩ := r
  have hP : ckNw L lg hm mk op pl n = P n := r3 n hn (fun g hg h => absurd h (hno g hg))
  refine ⟨⟨w1, w2, w3, fun g hg => ?_, fun g g1 n1 hg hg1 h1 h2 h3 => ?_, fun g hg => ?_, fun g hg => ?_, fun g hg h => ?_, fun g n1 hg h1 h h2 => ?_, fun g hg h => ?_, w11⟩, r1, fun n1 h1 hc hop => ?_, fun n1 h1 hc => ?_, fun g n1 hg h1 h2 => ?_, fun g n1 hg h1 h2 h3 => ?_⟩
  · by_cases q : g = f
    · rw [q, up_s]; exact Or.inr ⟨n, hn, rfl⟩
    · rw [up_n q]; exact w4 g hg
  · by_cases q : g = f
    · by_cases q1 : g1 = f
      · rw [q, q1]
      · rw [q, up_s] at h2
        rw [up_n q1] at h3
        exact absurd (by rw [h3, h2]) (hno g1 hg1)
    · by_cases q1 : g1 = f
      · rw [q1, up_s] at h3
        rw [up_n q] at h2
        exact absurd (by rw [h2, h3]) (hno g hg)
      · rw [up_n q] at h2
        rw [up_n q1] at h3
        exact w5 g g1 n1 hg hg1 h1 h2 h3
  · by_cases q : g = f
    · rw [q, up_s]; exact Or.inl rfl
    · rw [up_n q]; exact w6 g hg
  · by_cases q : g = f
    · rw [q, up_s]; exact Or.inl rfl
    · rw [up_n q]; exact w7 g hg
  · by_cases q : g = f
    · rw [q, up_s] at h; exact absurd h i_01
    · rw [up_n q] at h ⊢; exact w8 g hg h
  · by_cases q : g = f
    · rw [q, up_s] at h; exact absurd h i_01
    · rw [up_n q] at h h2; exact w9 g n1 hg h1 h h2
  · by_cases q : g = f
    · rw [q, up_s] at h; exact absurd h i_01
    · rw [up_n q] at h ⊢; exact w10 g hg h
  · refine r2 n1 h1 (fun g hg h => ?_) hop
    by_cases q : g = f
    · rw [q, hE] at h; exact absurd h.symm (n_m1 h1)
    · have := hc g hg (by rw [up_n q]; exact h)
      rwa [up_n q] at this
  · refine r3 n1 h1 (fun g hg h => ?_)
    by_cases q : g = f
    · rw [q, hE] at h; exact absurd h.symm (n_m1 h1)
    · have := hc g hg (by rw [up_n q]; exact h)
      rwa [up_n q] at this
  · by_cases q : g = f
    · rw [q, up_s] at h2
      have : n = n1 := n_inj hn h1 h2
      rw [q, ur_s, hP, this]
    · rw [up_n q] at h2
      rw [ur_n q]; exact r4 g n1 hg h1 h2
  · by_cases q : g = f
    · rw [q, up_s] at h3; exact absurd h3 i_01
    · rw [up_n q] at h2 h3
      rw [ur_n q]; exact r5 g n1 hg h1 h2 h3
/-- a frame is marked as changed -/
theorem iv_dirty (w : ckWf L ND DY FZ mk op pl) (r : ckRp L lg hm fr ND DY FZ mk op pl P O S) {f n : Nat} (hf : f < 5) (hn : n < 16) (hN : ND f = nI n) (hF : FZ f = 0) :
    ckWf L ND (upd DY f 1) FZ mk op pl ∧ ckRp L lg hm fr ND (upd DY f 1) FZ mk op pl P O S := by
  obtain ⟨w1, w2, w3, w4, w5, w6, w7, w8, w9, w10, w11⟩ := w
  obtain ⟨r1, r2, r3, r4, r5⟩ := r
  refine ⟨⟨w1, w2, w3, w4, w5, fun g hg => ?_, w7, fun g hg h => ?_, w9, fun g hg h => ?_, w11⟩, r1, r2, fun n1 h1 hc => ?_, r4, r5⟩
  · by_cases q : g = f
    · rw [q, up_s]; exact Or.inr rfl
    · rw [up_n q]; exact w6 g hg
  · by_cases q : g = f
    · rw [q, hF] at h; exact absurd h i_01
    · rw [up_n q]; exact w8 g hg h
  · by_cases q : g = f
    · rw [q, hN]; exact n_m1 hn
    · rw [up_n q] at h; exact w10 g hg h
  · refine r3 n1 h1 (fun g hg h => ?_)
    by_cases q : g = f
    · have := hc g hg h
      rw [q, up_s] at this
      exact absurd this i_10
    · have := hc g hg h
      rwa [up_n q] at this
/-- a changed frame of the present generation is written -/
theorem iv_put (w : ckWf L ND DY FZ mk op pl) (r : ckRp L lg hm fr ND DY FZ mk op pl P O S) {f n : Nat} (hf : f < 5) (hn : n < 16) (hN : ND f = nI n) (hF : FZ f = 0) (hD : DY f = 1) (x : ckR) :
    ckRp L lg hm (updR fr f x) ND DY FZ mk op pl (updR P n x) O S := by
  obtain ⟨w1, w2, w3, w4, w5, w6, w7, w8, w9, w10, w11⟩ := w
  obtain ⟨r1, r2, r3, r4, r5⟩ := r
  refine ⟨r1, r2, fun n1 h1 hc => ?_, fun g n1 hg h1 h2 => ?_, fun g n1 hg h1 h2 h3 => ?_⟩
  · by_cases q : n1 = n
    · have := hc f hf (by rw [q]; exact hN)
      rw [hD] at this
      exact absurd this i_10
    · rw [ur_n q]; exact r3 n1 h1 hc
  · by_cases q : g = f
    · have : n1 = n := n_inj h1 hn (by rw [← h2, q, hN])
      rw [q, ur_s, this, ur_s]
    · have : n1 ≠ n := fun z => q (w5 g f n1 hg hf h1 h2 (by rw [z]; exact hN))
      rw [ur_n q, ur_n this]; exact r4 g n1 hg h1 h2
  · have q : g ≠ f := fun z => by rw [z, hF] at h3; exact i_01 h3
    rw [ur_n q]; exact r5 g n1 hg h1 h2 h3
/-- a settled node moves home -/
theorem iv_move (w : ckWf L ND DY FZ mk op pl) (r : ckRp L lg hm fr ND DY FZ mk op pl P O S) {m n : Nat} (hm1 : mk = some m) (hn : n < 16) (hL : L (16 * m + n) = 1) :
    ckWf (upd L (16 * m + n) 0) ND DY FZ mk op pl ∧ ckRp (upd L (16 * m + n) 0) lg (updR hm n (lg (16 * m + n))) fr ND DY FZ mk op pl P O S := by
  obtain ⟨w1, w2, w3, w4, w5, w6, w7, w8, w9, w10, w11⟩ := w
  obtain ⟨r1, r2, r3, r4, r5⟩ := r
  obtain ⟨m1, m2⟩ := w2 m hm1
  have hst : ∀ n1, n1 < 16 → ckSt (upd L (16 * m + n) 0) lg (updR hm n (lg (16 * m + n))) mk n1 = ckSt L lg hm mk n1 := by
    intro n1 h1
    unfold ckSt
    by_cases q : n1 = n
    · subst q
      rw [hm1, nlk_0 up_s, nlk_1 hL, ur_s]
    · refine nlk_c (fun k hk => ?_) (ur_n q)
      rw [hm1] at hk
      have : k = m := by simpa using hk.symm
      exact ⟨up_n (by omega), rfl⟩
  have hob : ∀ n1, n1 < 16 → ckOb (upd L (16 * m + n) 0) lg (updR hm n (lg (16 * m + n))) mk op n1 = ckOb L lg hm mk op n1 := by
    intro n1 h1
    refine nlk_c (fun k hk => ?_) (hst n1 h1)
    have : k ≠ m := fun z => (w3 k hk).2.2 (by rw [z]; exact hm1)
    exact ⟨up_n (by omega), rfl⟩
  refine ⟨⟨w1, w2, w3, w4, w5, w6, w7, w8, fun g n1 hg h1 h h2 => ?_, w10, fun e1 he => ?_⟩, fun n1 h1 => ?_, fun n1 h1 hc hop => ?_, fun n1 h1 hc => ?_, r4, r5⟩
  · rw [up_n (by omega)]; exact w9 g n1 hg h1 h h2
  · by_cases q : e1 = 16 * m + n
    · rw [q, up_s]; exact Or.inl rfl
    · rw [up_n q]; exact w11 e1 he
  · rw [hst n1 h1]; exact r1 n1 h1
  · rw [hob n1 h1]; exact r2 n1 h1 hc hop
  · have e1 : ckNw (upd L (16 * m + n) 0) lg (updR hm n (lg (16 * m + n))) mk op pl n1 = ckNw L lg hm mk op pl n1 := by
      refine nlk_c (fun k hk => ?_) (hob n1 h1)
      have : k = pl := by simpa using hk.symm
      exact ⟨up_n (by omega), rfl⟩
    rw [e1]; exact r3 n1 h1 hc
/-- when no node is left in the settled log, the homes alone are the settled store -/
theorem iv_unmark (w : ckWf L ND DY FZ mk op pl) (r : ckRp L lg hm fr ND DY FZ mk op pl P O S) {m : Nat} (hm1 : mk = some m) (hL : ∀ n, n < 16 → L (16 * m + n) = 0) :
    ckWf L ND DY FZ none op pl ∧ ckRp L lg hm fr ND DY FZ none op pl P O S := by
  obtain ⟨w1, w2, w3, w4, w5, w6, w7, w8, w9, w10, w11⟩ := w
  obtain ⟨r1, r2, r3, r4, r5⟩ := r
  have hst : ∀ n1, n1 < 16 → ckSt L lg hm none n1 = ckSt L lg hm mk n1 := by
    intro n1 h1
    unfold ckSt
    rw [hm1, nlk_0 (hL n1 h1), nlk_none]
  have hob : ∀ n1, n1 < 16 → ckOb L lg hm none op n1 = ckOb L lg hm mk op n1 := fun n1 h1 => nlk_c (fun k hk => ⟨rfl, rfl⟩) (hst n1 h1)
  refine ⟨⟨w1, fun m h => by simp at h, fun o ho => ⟨(w3 o ho).1, (w3 o ho).2.1, by simp⟩, w4, w5, w6, w7, w8, w9, w10, w11⟩, fun n1 h1 => ?_, fun n1 h1 hc hop => ?_, fun n1 h1 hc => ?_, r4, r5⟩
  · rw [hst n1 h1]; exact r1 n1 h1
  · rw [hob n1 h1]; exact r2 n1 h1 hc hop
  · have e1 : ckNw L lg hm none op pl n1 = ckNw L lg hm mk op pl n1 := nlk_c (fun k hk => ⟨rfl, rfl⟩) (hob n1 h1)
    rw [e1]; exact r3 n1 h1 hc
/-- a snapshot opens: the present log is the open one, another is the present one -/
theorem iv_snap (w : ckWf L ND DY FZ mk op pl) (r : ckRp L lg hm fr ND DY FZ mk op pl P O S) (ho : op = none) {q : Nat} (hq : q < 3) (hqp : q ≠ pl) (hqm : mk ≠ some q) {FZ1 L1 : Nat → Int32} (hF : ∀ f, f < 5 → FZ1 f = DY f) (hL0 : ∀ n, n < 16 → L1 (16 * q + n) = 0) (hL1 : ∀ m n, m < 3 → n < 16 → m ≠ q → L1 (16 * m + n) = L (16 * m + n)) (hL2 : ∀ e, e < 48 → L1 e = 0 ∨ L1 e = 1) :
    ckWf L1 ND DY FZ1 mk (some pl) q ∧ ckRp L1 lg hm fr ND DY FZ1 mk (some pl) q P P S := by
  obtain ⟨w1, w2, w3, w4, w5, w6, w7, w8, w9, w10, w11⟩ := w
  obtain ⟨r1, r2, r3, r4, r5⟩ := r
  have hst : ∀ n1, n1 < 16 → ckSt L1 lg hm mk n1 = ckSt L lg hm mk n1 := by
    intro n1 h1
    refine nlk_c (fun m hm => ⟨hL1 m n1 (w2 m hm).1 h1 (fun z => hqm (by rw [hm, z])), rfl⟩) rfl
  have hob : ∀ n1, n1 < 16 → ckOb L1 lg hm mk (some pl) n1 = ckNw L lg hm mk op pl n1 := by
    intro n1 h1
    unfold ckNw ckOb
    refine nlk_c (fun m hm => ?_) (by rw [ho, nlk_none]; exact hst n1 h1)
    have : m = pl := by simpa using hm.symm
    exact ⟨hL1 m n1 (by omega) h1 (by omega), rfl⟩
  refine ⟨⟨hq, fun m hm => ⟨(w2 m hm).1, fun z => hqm (by rw [hm, z])⟩, fun o h => ?_, w4, w5, w6, fun f hf => by rw [hF f hf]; exact w6 f hf, fun f hf h => ⟨by rw [← hF f hf]; exact h, by simp⟩, fun f n hf hn _ _ => hL0 n hn, w10, hL2⟩, fun n1 h1 => ?_, fun n1 h1 hc hop => ?_, fun n1 h1 hc => ?_, r4, fun f n hf hn h _ => r4 f n hf hn h⟩
  · have : o = pl := by simpa using h.symm
    subst this
    exact ⟨w1, fun z => hqp z.symm, fun z => (w2 o z).2 rfl⟩
  · rw [hst n1 h1]; exact r1 n1 h1
  · rw [hob n1 h1]
    exact r3 n1 h1 (fun f hf h => by rw [← hF f hf]; exact hc f hf h)
  · unfold ckNw
    rw [nlk_0 (hL0 n1 h1), hob n1 h1]
    exact r3 n1 h1 hc
/-- the open snapshot settles -/
theorem iv_settle (w : ckWf L ND DY FZ mk op pl) (r : ckRp L lg hm fr ND DY FZ mk op pl P O S) {o : Nat} (ho : op = some o) (hF : ∀ f, f < 5 → FZ f = 0) (hL : ∀ m n, mk = some m → n < 16 → L (16 * m + n) = 0) (O1 : Nat → ckR) :
    ckWf L ND DY FZ (some o) none pl ∧ ckRp L lg hm fr ND DY FZ (some o) none pl P O1 O := by
  obtain ⟨w1, w2, w3, w4, w5, w6, w7, w8, w9, w10, w11⟩ := w
  obtain ⟨r1, r2, r3, r4, r5⟩ := r
  obtain ⟨o1, o2, o3⟩ := w3 o ho
  have hst : ∀ n1, n1 < 16 → ckSt L lg hm mk n1 = hm n1 := by
    intro n1 h1
    unfold ckSt
    cases hm1 : mk with
    | none => rfl
    | some m => rw [nlk_0 (hL m n1 hm1 h1)]
  have hob : ∀ n1, n1 < 16 → ckSt L lg hm (some o) n1 = ckOb L lg hm mk op n1 := by
    intro n1 h1
    unfold ckOb
    rw [hst n1 h1, ho]
    rfl
  have hnz : ∀ f, f < 5 → ¬ FZ f = 1 := fun f hf h => by rw [hF f hf] at h; exact i_01 h
  refine ⟨⟨w1, fun m h => ?_, fun o h => by simp at h, w4, w5, w6, w7, fun f hf h => absurd h (hnz f hf), fun f n hf _ h => absurd h (hnz f hf), w10, w11⟩, fun n1 h1 => ?_, fun n1 h1 hc hop => absurd rfl hop, fun n1 h1 hc => ?_, r4, fun f n hf hn _ h => absurd h (hnz f hf)⟩
  · have : m = o := by simpa using h.symm
    subst this
    exact ⟨o1, o2⟩
  · rw [hob n1 h1]
    exact r2 n1 h1 (fun f hf _ => hF f hf) (by rw [ho]; simp)
  · have e1 : ckNw L lg hm (some o) none pl n1 = ckNw L lg hm mk op pl n1 := nlk_c (fun k hk => ⟨rfl, rfl⟩) (hob n1 h1)
    rw [e1]; exact r3 n1 h1 hc
/-- a start from the disk alone -/
theorem iv_restart (hm1 : ∀ m, mk = some m → m < 3) (hS : ∀ n, n < 16 → ckSt L lg hm mk n = S n) {q : Nat} (hq : q < 3) (hqm : mk ≠ some q) {L1 : Nat → Int32} (hN : ∀ f, f < 5 → ND f = -1) (hD : ∀ f, f < 5 → DY f = 0) (hF : ∀ f, f < 5 → FZ f = 0) (hL0 : ∀ n, n < 16 → L1 (16 * q + n) = 0) (hL1 : ∀ m n, m < 3 → n < 16 → m ≠ q → L1 (16 * m + n) = L (16 * m + n)) (hL2 : ∀ e, e < 48 → L1 e = 0 ∨ L1 e = 1) (O1 : Nat → ckR) :
    ckWf L1 ND DY FZ mk none q ∧ ckRp L1 lg hm fr ND DY FZ mk none q S O1 S := by
  have hst : ∀ n1, n1 < 16 → ckSt L1 lg hm mk n1 = ckSt L lg hm mk n1 := by
    intro n1 h1
    refine nlk_c (fun m hm => ⟨hL1 m n1 (hm1 m hm) h1 (fun z => hqm (by rw [hm, z])), rfl⟩) rfl
  have hnn : ∀ f n, f < 5 → n < 16 → ¬ ND f = nI n := fun f n hf hn h => by rw [hN f hf] at h; exact n_m1 hn h.symm
  refine ⟨⟨hq, fun m hm => ⟨hm1 m hm, fun z => hqm (by rw [hm, z])⟩, fun o h => by simp at h, fun f hf => Or.inl (hN f hf), fun f g n hf hg hn h => absurd h (hnn f n hf hn), fun f hf => Or.inl (hD f hf), fun f hf => Or.inl (hF f hf), fun f hf h => ?_, fun f n hf hn h => ?_, fun f hf h => ?_, hL2⟩, fun n1 h1 => ?_, fun n1 h1 hc hop => absurd rfl hop, fun n1 h1 hc => ?_, fun f n hf hn h => absurd h (hnn f n hf hn), fun f n hf hn h => absurd h (hnn f n hf hn)⟩
  · rw [hF f hf] at h; exact absurd h i_01
  · rw [hF f hf] at h; exact absurd h i_01
  · rw [hD f hf] at h; exact absurd h i_01
  · rw [hst n1 h1]; exact hS n1 h1
  · unfold ckNw ckOb
    rw [nlk_0 (hL0 n1 h1), nlk_none, hst n1 h1]
    exact hS n1 h1
end IV
end
section
/-! copying a record from array to array, as the store's loops do it -/
def mv1 (a b J I : Nat) (σ : ckS) : ckS := ckUp σ a (upd (σ a) J (σ b I))
def mv3 (a0 b0 a1 b1 a2 b2 J I : Nat) (σ : ckS) : ckS := mv1 a2 b2 J I (mv1 a1 b1 J I (mv1 a0 b0 J I σ))
def mvN (a0 b0 a1 b1 a2 b2 x y : Nat) : Nat → ckS → ckS
  | 0, σ => σ
  | i + 1, σ => mv3 a0 b0 a1 b1 a2 b2 (4 * x + i) (4 * y + i) (mvN a0 b0 a1 b1 a2 b2 x y i σ)
def cpy4 (f g : Nat → Int32) (d s i : Nat) : Nat → Int32 := fun j => if d ≤ j ∧ j < d + i then g (s + (j - d)) else f j
theorem cpy4_0 (f g : Nat → Int32) (d s : Nat) : cpy4 f g d s 0 = f := by
  funext j
  unfold cpy4
  rw [if_neg (by omega)]
theorem cpy4_s (f g : Nat → Int32) (d s i : Nat) : upd (cpy4 f g d s i) (d + i) (g (s + i)) = cpy4 f g d s (i + 1) := by
  funext j
  unfold cpy4 upd
  by_cases h : j = d + i
  · rw [if_pos h, if_pos (by omega), h, show d + i - d = i by omega]
  · rw [if_neg h]
    show (if d ≤ j ∧ j < d + i then g (s + (j - d)) else f j) = _
    by_cases h2 : d ≤ j ∧ j < d + i
    · rw [if_pos h2, if_pos (by omega)]
    · rw [if_neg h2, if_neg (by omega)]
theorem kUp_s {σ : ckS} {k : Nat} {f : Nat → Int32} : ckUp σ k f k = f := by simp [ckUp]
theorem kUp_n {σ : ckS} {k j : Nat} {f : Nat → Int32} (h : j ≠ k) : ckUp σ k f j = σ j := by simp [ckUp, h]
theorem mvN_eq {a0 b0 a1 b1 a2 b2 : Nat} (x y : Nat) (h1 : a0 ≠ a1) (h2 : a0 ≠ a2) (h3 : a1 ≠ a2) (h4 : b0 ≠ a0) (h5 : b0 ≠ a1) (h6 : b0 ≠ a2) (h7 : b1 ≠ a0) (h8 : b1 ≠ a1) (h9 : b1 ≠ a2) (h10 : b2 ≠ a0) (h11 : b2 ≠ a1) (h12 : b2 ≠ a2) (σ : ckS) : ∀ i, mvN a0 b0 a1 b1 a2 b2 x y i σ = ckUp (ckUp (ckUp σ a0 (cpy4 (σ a0) (σ b0) (4 * x) (4 * y) i)) a1 (cpy4 (σ a1) (σ b1) (4 * x) (4 * y) i)) a2 (cpy4 (σ a2) (σ b2) (4 * x) (4 * y) i) := by
  intro i
  induction i with
  | zero =>
    funext k
    rw [cpy4_0, cpy4_0, cpy4_0]
    show σ k = _
    by_cases e2 : k = a2
    · rw [e2, kUp_s]
    · rw [kUp_n e2]
      by_cases e1 : k = a1
      · rw [e1, kUp_s]
      · rw [kUp_n e1]
        by_cases e0 : k = a0
        · rw [e0, kUp_s]
        · rw [kUp_n e0]
  | succ i ih =>
    rw [mvN, ih]
    unfold mv3 mv1
    funext k
    by_cases e2 : k = a2
    · subst e2
      rw [kUp_s, kUp_s, kUp_n (Ne.symm h3), kUp_n (Ne.symm h2), kUp_s, kUp_n h11, kUp_n h10, kUp_n h12, kUp_n h11, kUp_n h10, cpy4_s]
    · rw [kUp_n e2, kUp_n e2]
      by_cases e1 : k = a1
      · subst e1
        rw [kUp_s, kUp_s, kUp_n (Ne.symm h1), kUp_n h3, kUp_s, kUp_n h7, kUp_n h9, kUp_n h8, kUp_n h7, cpy4_s]
      · rw [kUp_n e1, kUp_n e1]
        by_cases e0 : k = a0
        · subst e0
          rw [kUp_s, kUp_s, kUp_n h2, kUp_n h1, kUp_s, kUp_n h6, kUp_n h5, kUp_n h4, cpy4_s]
        · rw [kUp_n e0, kUp_n e0, kUp_n e2, kUp_n e1, kUp_n e0]
theorem rc_cpy (v a b c v1 a1 b1 c1 : Nat → Int32) (x y : Nat) (z : Nat) : rc (upd v x (v1 y)) (cpy4 a a1 (4 * x) (4 * y) 4) (cpy4 b b1 (4 * x) (4 * y) 4) (cpy4 c c1 (4 * x) (4 * y) 4) z = if z = x then rc v1 a1 b1 c1 y else rc v a b c z := by
  by_cases h : z = x
  · subst h
    rw [if_pos rfl]
    funext j
    unfold rc cpy4
    by_cases j0 : j = 0
    · rw [if_pos j0, if_pos j0, up_s]
    · rw [if_neg j0, if_neg j0]
      by_cases j1 : j < 5
      · rw [if_pos j1, if_pos j1, if_pos (by omega), show 4 * z + (j - 1) - 4 * z = j - 1 by omega]
      · rw [if_neg j1, if_neg j1]
        by_cases j2 : j < 9
        · rw [if_pos j2, if_pos j2, if_pos (by omega), show 4 * z + (j - 5) - 4 * z = j - 5 by omega]
        · rw [if_neg j2, if_neg j2]
          by_cases j3 : j < 13
          · rw [if_pos j3, if_pos j3, if_pos (by omega), show 4 * z + (j - 9) - 4 * z = j - 9 by omega]
          · rw [if_neg j3, if_neg j3]
  · rw [if_neg h]
    funext j
    unfold rc cpy4
    by_cases j0 : j = 0
    · rw [if_pos j0, if_pos j0, up_n h]
    · rw [if_neg j0, if_neg j0]
      by_cases j1 : j < 5
      · rw [if_pos j1, if_pos j1, if_neg (by omega)]
      · rw [if_neg j1, if_neg j1]
        by_cases j2 : j < 9
        · rw [if_pos j2, if_pos j2, if_neg (by omega)]
        · rw [if_neg j2, if_neg j2]
          by_cases j3 : j < 13
          · rw [if_pos j3, if_pos j3, if_neg (by omega)]
          · rw [if_neg j3, if_neg j3]
/-- save: frame f to the entry e -/
def p_save (f e : Nat) (σ : ckS) : ckS := mvN 4 13 5 14 6 15 e f 4 (mv1 7 16 e f (ckUp σ 8 (upd (σ 8) e 1)))
theorem p_save_lg (f e : Nat) (σ : ckS) : ckLg (p_save f e σ) = updR (ckLg σ) e (ckFr σ f) := by
  funext z
  unfold ckLg p_save
  rw [mvN_eq e f (by decide) (by decide) (by decide) (by decide) (by decide) (by decide) (by decide) (by decide) (by decide) (by decide) (by decide) (by decide)]
  exact rc_cpy (σ 7) (σ 4) (σ 5) (σ 6) (σ 16) (σ 13) (σ 14) (σ 15) e f z
theorem p_save_k (f e : Nat) (σ : ckS) (k : Nat) (h : k < 4 ∨ 9 ≤ k) : p_save f e σ k = σ k := by
  unfold p_save
  rw [mvN_eq e f (by decide) (by decide) (by decide) (by decide) (by decide) (by decide) (by decide) (by decide) (by decide) (by decide) (by decide) (by decide)]
  rw [kUp_n (by omega), kUp_n (by omega), kUp_n (by omega)]
  unfold mv1
  rw [kUp_n (by omega), kUp_n (by omega)]
theorem p_save_8 (f e : Nat) (σ : ckS) : p_save f e σ 8 = upd (σ 8) e 1 := by
  unfold p_save
  rw [mvN_eq e f (by decide) (by decide) (by decide) (by decide) (by decide) (by decide) (by decide) (by decide) (by decide) (by decide) (by decide) (by decide)]
  rfl
/-- a frame's record from an entry of the logs -/
def p_ldL (f e : Nat) (σ : ckS) : ckS := mvN 13 4 14 5 15 6 f e 4 (mv1 16 7 f e σ)
theorem p_ldL_fr (f e : Nat) (σ : ckS) : ckFr (p_ldL f e σ) = updR (ckFr σ) f (ckLg σ e) := by
  funext z
  unfold ckFr p_ldL
  rw [mvN_eq f e (by decide) (by decide) (by decide) (by decide) (by decide) (by decide) (by decide) (by decide) (by decide) (by decide) (by decide) (by decide)]
  exact rc_cpy (σ 16) (σ 13) (σ 14) (σ 15) (σ 7) (σ 4) (σ 5) (σ 6) f e z
theorem p_ldL_k (f e : Nat) (σ : ckS) (k : Nat) (h : k < 13 ∨ 17 ≤ k) : p_ldL f e σ k = σ k := by
  unfold p_ldL
  rw [mvN_eq f e (by decide) (by decide) (by decide) (by decide) (by decide) (by decide) (by decide) (by decide) (by decide) (by decide) (by decide) (by decide)]
  rw [kUp_n (by omega), kUp_n (by omega), kUp_n (by omega)]
  unfold mv1
  rw [kUp_n (by omega)]
/-- a frame's record from a home place -/
def p_ldH (f n : Nat) (σ : ckS) : ckS := mvN 13 0 14 1 15 2 f n 4 (mv1 16 3 f n σ)
theorem p_ldH_fr (f n : Nat) (σ : ckS) : ckFr (p_ldH f n σ) = updR (ckFr σ) f (ckHm σ n) := by
  funext z
  unfold ckFr p_ldH
  rw [mvN_eq f n (by decide) (by decide) (by decide) (by decide) (by decide) (by decide) (by decide) (by decide) (by decide) (by decide) (by decide) (by decide)]
  exact rc_cpy (σ 16) (σ 13) (σ 14) (σ 15) (σ 3) (σ 0) (σ 1) (σ 2) f n z
theorem p_ldH_k (f n : Nat) (σ : ckS) (k : Nat) (h : k < 13 ∨ 17 ≤ k) : p_ldH f n σ k = σ k := by
  unfold p_ldH
  rw [mvN_eq f n (by decide) (by decide) (by decide) (by decide) (by decide) (by decide) (by decide) (by decide) (by decide) (by decide) (by decide) (by decide)]
  rw [kUp_n (by omega), kUp_n (by omega), kUp_n (by omega)]
  unfold mv1
  rw [kUp_n (by omega)]
/-- a home place's record from an entry of the logs -/
def p_cpH (e n : Nat) (σ : ckS) : ckS := mvN 0 4 1 5 2 6 n e 4 (mv1 3 7 n e σ)
theorem p_cpH_hm (e n : Nat) (σ : ckS) : ckHm (p_cpH e n σ) = updR (ckHm σ) n (ckLg σ e) := by
  funext z
  unfold ckHm p_cpH
  rw [mvN_eq n e (by decide) (by decide) (by decide) (by decide) (by decide) (by decide) (by decide) (by decide) (by decide) (by decide) (by decide) (by decide)]
  exact rc_cpy (σ 3) (σ 0) (σ 1) (σ 2) (σ 7) (σ 4) (σ 5) (σ 6) n e z
theorem p_cpH_k (e n : Nat) (σ : ckS) (k : Nat) (h : 4 ≤ k) : p_cpH e n σ k = σ k := by
  unfold p_cpH
  rw [mvN_eq n e (by decide) (by decide) (by decide) (by decide) (by decide) (by decide) (by decide) (by decide) (by decide) (by decide) (by decide) (by decide)]
  rw [kUp_n (by omega), kUp_n (by omega), kUp_n (by omega)]
  unfold mv1
  rw [kUp_n (by omega)]
theorem ck_lgk {σ σ1 : ckS} (h : ∀ k, 4 ≤ k → k < 8 → σ1 k = σ k) : ckLg σ1 = ckLg σ := by
  funext z
  unfold ckLg
  rw [h 7 (by omega) (by omega), h 4 (by omega) (by omega), h 5 (by omega) (by omega), h 6 (by omega) (by omega)]
theorem ck_hmk {σ σ1 : ckS} (h : ∀ k, k < 4 → σ1 k = σ k) : ckHm σ1 = ckHm σ := by
  funext z
  unfold ckHm
  rw [h 3 (by omega), h 0 (by omega), h 1 (by omega), h 2 (by omega)]
theorem ck_frk {σ σ1 : ckS} (h : ∀ k, 13 ≤ k → k < 17 → σ1 k = σ k) : ckFr σ1 = ckFr σ := by
  funext z
  unfold ckFr
  rw [h 16 (by omega) (by omega), h 13 (by omega) (by omega), h 14 (by omega) (by omega), h 15 (by omega) (by omega)]
/-- clearLog: the log's first k marks go -/
def p_clr (g : Nat) : Nat → ckS → ckS
  | 0, σ => σ
  | i + 1, σ => ckUp (p_clr g i σ) 8 (upd (p_clr g i σ 8) (16 * g + i) 0)
theorem p_clr_k (g : Nat) (σ : ckS) : ∀ (i k : Nat), k ≠ 8 → p_clr g i σ k = σ k := by
  intro i
  induction i with
  | zero => intro k _; rfl
  | succ i ih => intro k hk; rw [p_clr, kUp_n hk]; exact ih k hk
theorem p_clr_8 (g : Nat) (σ : ckS) : ∀ (i j : Nat), p_clr g i σ 8 j = if 16 * g ≤ j ∧ j < 16 * g + i then 0 else σ 8 j := by
  intro i
  induction i with
  | zero => intro j; rw [if_neg (by omega)]; rfl
  | succ i ih =>
    intro j
    rw [p_clr, kUp_s]
    by_cases q : j = 16 * g + i
    · rw [q, up_s, if_pos (by omega)]
    · rw [up_n q, ih j]
      by_cases h : 16 * g ≤ j ∧ j < 16 * g + i
      · rw [if_pos h, if_pos (by omega)]
      · rw [if_neg h, if_neg (by omega)]
/-- what the store's arrays stand for -/
def ckInv (σ : ckS) (mk op : Option Nat) (pl : Nat) (P O S : Nat → ckR) : Prop :=
  σ 9 0 = oI mk ∧ σ 18 0 = oI op ∧ σ 19 0 = nI pl ∧ (∃ h, h < 5 ∧ σ 17 0 = nI h) ∧ ckWf (σ 8) (σ 10) (σ 11) (σ 12) mk op pl ∧ ckRp (σ 8) (ckLg σ) (ckHm σ) (ckFr σ) (σ 10) (σ 11) (σ 12) mk op pl P O S
end
section
/-! WALKS of the store's leaves: fits, save, loadHome, copyHome, clearLog, unusedLog, newestLog -/
set_option maxRecDepth 100000 in
set_option maxHeartbeats 4000000 in
/-- fits(node, slot): both in range -/
theorem tS_fits (l : Launch) (x y : Int32) : ckT l yX0_fits cX0_fits 2 (some .boolean) (rmD 0) [.int x, .int y] (fun r => (r = 1 ∧ ∃ n s, n < 16 ∧ s < 4 ∧ x = nI n ∧ y = nI s) ∨ (r = 0 ∧ ¬ ∃ n s, n < 16 ∧ s < 4 ∧ x = nI n ∧ y = nI s)) := by
  refine gg_inT (by decide) (by simp [Value.category]) (Nat.le_of_ble_eq_true rfl) ?_
  intro p e s m args below meth c A C
  refine gg_lv (lv1 := [some (.int x), some (.int y)]) rfl ?_
  have no : ∀ {q : Prop}, (¬ q) → (q ∨ (nI 0 = (0 : Int32) ∧ True)) → nI 0 = (0 : Int32) := fun _ _ => rfl
  have fl : (¬ ∃ n s, n < 16 ∧ s < 4 ∧ x = nI n ∧ y = nI s) → GG p l e (rmD 0) s m args below meth c (MQ below (va_Qi (fun (r : Int32) (_ : ckS) => (r = 1 ∧ ∃ n s, n < 16 ∧ s < 4 ∧ x = nI n ∧ y = nI s) ∨ (r = 0 ∧ ¬ ∃ n s, n < 16 ∧ s < 4 ∧ x = nI n ∧ y = nI s)) (fun _ _ => True) A) args s 0 0 A) (fun _ => 0, fun _ _ => 0) (fun _ => []) A 2 0 0 23 [some (.int x), some (.int y)] [] (fun _ _ => 0) := by
    intro hno
    refine gg_iconst (pc := 23) (v := nI 0) C dX0_fits_23 (by decide) ?_
    exact gg_zret (pc := 24) C (by decide) dX0_fits_24 (Or.inr ⟨rfl, hno⟩)
  refine gg_iload_n (pc := 0) C dX0_fits_0 rfl rfl ?_
  refine gg_if_lt (pc := 1) C 23 dX0_fits_1 (by decide) (fun h1 => ?_) (fun h1 => ?_)
  · exact fl (fun ⟨n, s, hn, hs, e1, e2⟩ => absurd h1 (by rw [e1]; exact nI_pos (by omega)))
  · refine gg_iload_n (pc := 4) C dX0_fits_4 rfl rfl ?_
    refine gg_bipush (pc := 5) (v := nI 15) C dX0_fits_5 (by decide) ?_
    refine gg_icmp_gt (pc := 7) C 23 dX0_fits_7 (by decide) (fun h2 => ?_) (fun h2 => ?_)
    · exact fl (fun ⟨n, s, hn, hs, e1, e2⟩ => absurd h2 (by rw [e1]; exact nI_nlt (by omega) (by omega)))
    · refine gg_iload_n (pc := 10) C dX0_fits_10 rfl rfl ?_
      refine gg_if_lt (pc := 11) C 23 dX0_fits_11 (by decide) (fun h3 => ?_) (fun h3 => ?_)
      · exact fl (fun ⟨n, s, hn, hs, e1, e2⟩ => absurd h3 (by rw [e2]; exact nI_pos (by omega)))
      · refine gg_iload_n (pc := 14) C dX0_fits_14 rfl rfl ?_
        refine gg_iconst (pc := 15) (v := nI 3) C dX0_fits_15 (by decide) ?_
        refine gg_icmp_gt (pc := 16) C 23 dX0_fits_16 (by decide) (fun h4 => ?_) (fun h4 => ?_)
        · exact fl (fun ⟨n, s, hn, hs, e1, e2⟩ => absurd h4 (by rw [e2]; exact nI_nlt (by omega) (by omega)))
        · refine gg_iconst (pc := 19) (v := nI 1) C dX0_fits_19 (by decide) ?_
          refine gg_goto (pc := 20) C 24 dX0_fits_20 (by decide) ?_
          obtain ⟨n, hn, en⟩ := nI_of2 (x := x) (M := nI 15) (n := 15) (by decide) h1 (Int32.not_lt.mp h2)
          obtain ⟨s1, hs, es⟩ := nI_of2 (x := y) (M := nI 3) (n := 3) (by decide) h3 (Int32.not_lt.mp h4)
          exact gg_zret (pc := 24) C (by decide) dX0_fits_24 (Or.inl ⟨rfl, n, s1, by omega, by omega, en, es⟩)
set_option maxRecDepth 100000 in
set_option maxHeartbeats 4000000 in
/-- save(f, log): the frame's record goes to its node's entry of the log -/
theorem tS_save (l : Launch) (D : va_G) (h0 : Nat) (ad : Nat → Nat) (cI cZ : ClassId) (σ : ckS) {f g n : Nat} (hf : f < 5) (hg : g < 3) (hn : n < 16) (hN : σ 10 f = nI n) : ckV l yX0_save cX0_save 6 (rmD 0) D (csW h0 ad cI cZ) cI cZ [.ref h0, .int (nI f), .int (nI g)] σ (fun σ1 => σ1 = p_save f (16 * g + n) σ) := by
  refine gg_inV (by decide) (by simp [Value.category]) (Nat.le_of_ble_eq_true rfl) ?_
  intro p e s m args below meth c A C hK
  have S := csS (h0 := h0) (ad := ad) hK
  refine gg_lv (lv1 := [some (.ref h0), some (.int (nI f)), some (.int (nI g)), none, none, none]) rfl ?_
  refine gg_aload_n (pc := 0) C dX0_save_0 rfl rfl ?_
  refine gg_getA (pc := 1) C S 10 (by decide) (Or.inl rfl) q51 dX0_save_1 ?_
  refine gg_iload_n (pc := 4) C dX0_save_4 rfl rfl ?_
  refine gg_iald (pc := 5) C S 5 rfl rfl (by omega) (by decide) dX0_save_5 ?_
  refine gg_top hN ?_
  refine gg_istore_n (pc := 6) C dX0_save_6 rfl (by decide) rfl ?_
  refine gg_bipush (pc := 7) (v := nI 16) C dX0_save_7 (by decide) ?_
  refine gg_iload_n (pc := 9) C dX0_save_9 rfl rfl ?_
  refine gg_imulN (pc := 10) C dX0_save_10 ?_
  refine gg_iload_n (pc := 11) C dX0_save_11 rfl rfl ?_
  refine gg_iaddN (pc := 12) C dX0_save_12 ?_
  refine gg_istore (pc := 13) C dX0_save_13 (by decide) rfl ?_
  refine gg_aload_n (pc := 15) C dX0_save_15 rfl rfl ?_
  refine gg_getA (pc := 16) C S 8 (by decide) (Or.inr rfl) q49 dX0_save_16 ?_
  refine gg_iload (pc := 19) C dX0_save_19 rfl ?_
  refine gg_iconst (pc := 21) (v := nI 1) C dX0_save_21 (by decide) ?_
  refine gg_zast (pc := 22) C S 48 rfl rfl (by omega) (by decide) (by decide) dX0_save_22 ?_
  refine gg_aload_n (pc := 23) C dX0_save_23 rfl rfl ?_
  refine gg_getA (pc := 24) C S 7 (by decide) (Or.inl rfl) q48 dX0_save_24 ?_
  refine gg_iload (pc := 27) C dX0_save_27 rfl ?_
  refine gg_aload_n (pc := 29) C dX0_save_29 rfl rfl ?_
  refine gg_getA (pc := 30) C S 16 (by decide) (Or.inl rfl) q57 dX0_save_30 ?_
  refine gg_iload_n (pc := 33) C dX0_save_33 rfl rfl ?_
  refine gg_iald (pc := 34) C S 5 rfl rfl (by omega) (by decide) dX0_save_34 ?_
  refine gg_iast (pc := 35) C S 48 rfl rfl (by omega) (by decide) dX0_save_35 ?_
  refine gg_iconst (pc := 36) (v := nI 0) C dX0_save_36 (by decide) ?_
  refine gg_istore (pc := 37) C dX0_save_37 (by decide) rfl ?_
  refine gg_loop (F := GG p l e (rmD 0) s m args below meth c _ D _ A 6 0 0) 39 [] (fun i => [some (.ref h0), some (.int (nI f)), some (.int (nI g)), some (.int (nI n)), some (.int (nI (16 * g + n))), some (.int (nI i))]) (fun i => mvN 4 13 5 14 6 15 (16 * g + n) f i (mv1 7 16 (16 * g + n) f (ckUp σ 8 (upd (σ 8) (16 * g + n) 1)))) 4 (fun i hi ih => ?_)
  refine gg_iload (pc := 39) C dX0_save_39 rfl ?_
  refine gg_iconst (pc := 41) (v := nI 4) C dX0_save_41 (by decide) ?_
  refine gg_icmp_geN (pc := 42) C 120 dX0_save_42 (by decide) (by omega) (by omega) (fun h => ?_) (fun h => ?_)
  · obtain rfl : i = 4 := by omega
    exact gg_vret (pc := 120) C dX0_save_120 rfl
  · refine gg_aload_n (pc := 45) C dX0_save_45 rfl rfl ?_
    refine gg_getA (pc := 46) C S 4 (by decide) (Or.inl rfl) q45 dX0_save_46 ?_
    refine gg_iconst (pc := 49) (v := nI 4) C dX0_save_49 (by decide) ?_
    refine gg_iload (pc := 50) C dX0_save_50 rfl ?_
    refine gg_imulN (pc := 52) C dX0_save_52 ?_
    refine gg_iload (pc := 53) C dX0_save_53 rfl ?_
    refine gg_iaddN (pc := 55) C dX0_save_55 ?_
    refine gg_aload_n (pc := 56) C dX0_save_56 rfl rfl ?_
    refine gg_getA (pc := 57) C S 13 (by decide) (Or.inl rfl) q54 dX0_save_57 ?_
    refine gg_iconst (pc := 60) (v := nI 4) C dX0_save_60 (by decide) ?_
    refine gg_iload_n (pc := 61) C dX0_save_61 rfl rfl ?_
    refine gg_imulN (pc := 62) C dX0_save_62 ?_
    refine gg_iload (pc := 63) C dX0_save_63 rfl ?_
    refine gg_iaddN (pc := 65) C dX0_save_65 ?_
    refine gg_iald (pc := 66) C S 20 rfl rfl (by omega) (by decide) dX0_save_66 ?_
    refine gg_iast (pc := 67) C S 192 rfl rfl (by omega) (by decide) dX0_save_67 ?_
    refine gg_aload_n (pc := 68) C dX0_save_68 rfl rfl ?_
    refine gg_getA (pc := 69) C S 5 (by decide) (Or.inl rfl) q46 dX0_save_69 ?_
    refine gg_iconst (pc := 72) (v := nI 4) C dX0_save_72 (by decide) ?_
    refine gg_iload (pc := 73) C dX0_save_73 rfl ?_
    refine gg_imulN (pc := 75) C dX0_save_75 ?_
    refine gg_iload (pc := 76) C dX0_save_76 rfl ?_
    refine gg_iaddN (pc := 78) C dX0_save_78 ?_
    refine gg_aload_n (pc := 79) C dX0_save_79 rfl rfl ?_
    refine gg_getA (pc := 80) C S 14 (by decide) (Or.inl rfl) q55 dX0_save_80 ?_
    refine gg_iconst (pc := 83) (v := nI 4) C dX0_save_83 (by decide) ?_
    refine gg_iload_n (pc := 84) C dX0_save_84 rfl rfl ?_
    refine gg_imulN (pc := 85) C dX0_save_85 ?_
    refine gg_iload (pc := 86) C dX0_save_86 rfl ?_
    refine gg_iaddN (pc := 88) C dX0_save_88 ?_
    refine gg_iald (pc := 89) C S 20 rfl rfl (by omega) (by decide) dX0_save_89 ?_
    refine gg_iast (pc := 90) C S 192 rfl rfl (by omega) (by decide) dX0_save_90 ?_
    refine gg_aload_n (pc := 91) C dX0_save_91 rfl rfl ?_
    refine gg_getA (pc := 92) C S 6 (by decide) (Or.inl rfl) q47 dX0_save_92 ?_
    refine gg_iconst (pc := 95) (v := nI 4) C dX0_save_95 (by decide) ?_
    refine gg_iload (pc := 96) C dX0_save_96 rfl ?_
    refine gg_imulN (pc := 98) C dX0_save_98 ?_
    refine gg_iload (pc := 99) C dX0_save_99 rfl ?_
    refine gg_iaddN (pc := 101) C dX0_save_101 ?_
    refine gg_aload_n (pc := 102) C dX0_save_102 rfl rfl ?_
    refine gg_getA (pc := 103) C S 15 (by decide) (Or.inl rfl) q56 dX0_save_103 ?_
    refine gg_iconst (pc := 106) (v := nI 4) C dX0_save_106 (by decide) ?_
    refine gg_iload_n (pc := 107) C dX0_save_107 rfl rfl ?_
    refine gg_imulN (pc := 108) C dX0_save_108 ?_
    refine gg_iload (pc := 109) C dX0_save_109 rfl ?_
    refine gg_iaddN (pc := 111) C dX0_save_111 ?_
    refine gg_iald (pc := 112) C S 20 rfl rfl (by omega) (by decide) dX0_save_112 ?_
    refine gg_iast (pc := 113) C S 192 rfl rfl (by omega) (by decide) dX0_save_113 ?_
    refine gg_iincN (pc := 114) C dX0_save_114 rfl (by decide) rfl ?_
    refine gg_goto (pc := 117) C 39 dX0_save_117 (by decide) ?_
    exact ih h
set_option maxRecDepth 100000 in
set_option maxHeartbeats 4000000 in
/-- loadHome(f, node) -/
theorem tS_loadHome (l : Launch) (D : va_G) (h0 : Nat) (ad : Nat → Nat) (cI cZ : ClassId) (σ : ckS) {f n : Nat} (hf : f < 5) (hn : n < 16) : ckV l yX0_loadHome cX0_loadHome 4 (rmD 0) D (csW h0 ad cI cZ) cI cZ [.ref h0, .int (nI f), .int (nI n)] σ (fun σ1 => σ1 = p_ldH f n σ) := by
  refine gg_inV (by decide) (by simp [Value.category]) (Nat.le_of_ble_eq_true rfl) ?_
  intro p e s m args below meth c A C hK
  have S := csS (h0 := h0) (ad := ad) hK
  refine gg_lv (lv1 := [some (.ref h0), some (.int (nI f)), some (.int (nI n)), none]) rfl ?_
  refine gg_aload_n (pc := 0) C dX0_loadHome_0 rfl rfl ?_
  refine gg_getA (pc := 1) C S 16 (by decide) (Or.inl rfl) q57 dX0_loadHome_1 ?_
  refine gg_iload_n (pc := 4) C dX0_loadHome_4 rfl rfl ?_
  refine gg_aload_n (pc := 5) C dX0_loadHome_5 rfl rfl ?_
  refine gg_getA (pc := 6) C S 3 (by decide) (Or.inl rfl) q44 dX0_loadHome_6 ?_
  refine gg_iload_n (pc := 9) C dX0_loadHome_9 rfl rfl ?_
  refine gg_iald (pc := 10) C S 16 rfl rfl (by omega) (by decide) dX0_loadHome_10 ?_
  refine gg_iast (pc := 11) C S 5 rfl rfl (by omega) (by decide) dX0_loadHome_11 ?_
  refine gg_iconst (pc := 12) (v := nI 0) C dX0_loadHome_12 (by decide) ?_
  refine gg_istore_n (pc := 13) C dX0_loadHome_13 rfl (by decide) rfl ?_
  refine gg_loop (F := GG p l e (rmD 0) s m args below meth c _ D _ A 4 0 0) 14 [] (fun i => [some (.ref h0), some (.int (nI f)), some (.int (nI n)), some (.int (nI i))]) (fun i => mvN 13 0 14 1 15 2 f n i (mv1 16 3 f n σ)) 4 (fun i hi ih => ?_)
  refine gg_iload_n (pc := 14) C dX0_loadHome_14 rfl rfl ?_
  refine gg_iconst (pc := 15) (v := nI 4) C dX0_loadHome_15 (by decide) ?_
  refine gg_icmp_geN (pc := 16) C 85 dX0_loadHome_16 (by decide) (by omega) (by omega) (fun h => ?_) (fun h => ?_)
  · obtain rfl : i = 4 := by omega
    exact gg_vret (pc := 85) C dX0_loadHome_85 rfl
  · refine gg_aload_n (pc := 19) C dX0_loadHome_19 rfl rfl ?_
    refine gg_getA (pc := 20) C S 13 (by decide) (Or.inl rfl) q54 dX0_loadHome_20 ?_
    refine gg_iconst (pc := 23) (v := nI 4) C dX0_loadHome_23 (by decide) ?_
    refine gg_iload_n (pc := 24) C dX0_loadHome_24 rfl rfl ?_
    refine gg_imulN (pc := 25) C dX0_loadHome_25 ?_
    refine gg_iload_n (pc := 26) C dX0_loadHome_26 rfl rfl ?_
    refine gg_iaddN (pc := 27) C dX0_loadHome_27 ?_
    refine gg_aload_n (pc := 28) C dX0_loadHome_28 rfl rfl ?_
    refine gg_getA (pc := 29) C S 0 (by decide) (Or.inl rfl) q41 dX0_loadHome_29 ?_
    refine gg_iconst (pc := 32) (v := nI 4) C dX0_loadHome_32 (by decide) ?_
    refine gg_iload_n (pc := 33) C dX0_loadHome_33 rfl rfl ?_
    refine gg_imulN (pc := 34) C dX0_loadHome_34 ?_
    refine gg_iload_n (pc := 35) C dX0_loadHome_35 rfl rfl ?_
    refine gg_iaddN (pc := 36) C dX0_loadHome_36 ?_
    refine gg_iald (pc := 37) C S 64 rfl rfl (by omega) (by decide) dX0_loadHome_37 ?_
    refine gg_iast (pc := 38) C S 20 rfl rfl (by omega) (by decide) dX0_loadHome_38 ?_
    refine gg_aload_n (pc := 39) C dX0_loadHome_39 rfl rfl ?_
    refine gg_getA (pc := 40) C S 14 (by decide) (Or.inl rfl) q55 dX0_loadHome_40 ?_
    refine gg_iconst (pc := 43) (v := nI 4) C dX0_loadHome_43 (by decide) ?_
    refine gg_iload_n (pc := 44) C dX0_loadHome_44 rfl rfl ?_
    refine gg_imulN (pc := 45) C dX0_loadHome_45 ?_
    refine gg_iload_n (pc := 46) C dX0_loadHome_46 rfl rfl ?_
    refine gg_iaddN (pc := 47) C dX0_loadHome_47 ?_
    refine gg_aload_n (pc := 48) C dX0_loadHome_48 rfl rfl ?_
    refine gg_getA (pc := 49) C S 1 (by decide) (Or.inl rfl) q42 dX0_loadHome_49 ?_
    refine gg_iconst (pc := 52) (v := nI 4) C dX0_loadHome_52 (by decide) ?_
    refine gg_iload_n (pc := 53) C dX0_loadHome_53 rfl rfl ?_
    refine gg_imulN (pc := 54) C dX0_loadHome_54 ?_
    refine gg_iload_n (pc := 55) C dX0_loadHome_55 rfl rfl ?_
    refine gg_iaddN (pc := 56) C dX0_loadHome_56 ?_
    refine gg_iald (pc := 57) C S 64 rfl rfl (by omega) (by decide) dX0_loadHome_57 ?_
    refine gg_iast (pc := 58) C S 20 rfl rfl (by omega) (by decide) dX0_loadHome_58 ?_
    refine gg_aload_n (pc := 59) C dX0_loadHome_59 rfl rfl ?_
    refine gg_getA (pc := 60) C S 15 (by decide) (Or.inl rfl) q56 dX0_loadHome_60 ?_
    refine gg_iconst (pc := 63) (v := nI 4) C dX0_loadHome_63 (by decide) ?_
    refine gg_iload_n (pc := 64) C dX0_loadHome_64 rfl rfl ?_
    refine gg_imulN (pc := 65) C dX0_loadHome_65 ?_
    refine gg_iload_n (pc := 66) C dX0_loadHome_66 rfl rfl ?_
    refine gg_iaddN (pc := 67) C dX0_loadHome_67 ?_
    refine gg_aload_n (pc := 68) C dX0_loadHome_68 rfl rfl ?_
    refine gg_getA (pc := 69) C S 2 (by decide) (Or.inl rfl) q43 dX0_loadHome_69 ?_
    refine gg_iconst (pc := 72) (v := nI 4) C dX0_loadHome_72 (by decide) ?_
    refine gg_iload_n (pc := 73) C dX0_loadHome_73 rfl rfl ?_
    refine gg_imulN (pc := 74) C dX0_loadHome_74 ?_
    refine gg_iload_n (pc := 75) C dX0_loadHome_75 rfl rfl ?_
    refine gg_iaddN (pc := 76) C dX0_loadHome_76 ?_
    refine gg_iald (pc := 77) C S 64 rfl rfl (by omega) (by decide) dX0_loadHome_77 ?_
    refine gg_iast (pc := 78) C S 20 rfl rfl (by omega) (by decide) dX0_loadHome_78 ?_
    refine gg_iincN (pc := 79) C dX0_loadHome_79 rfl (by decide) rfl ?_
    refine gg_goto (pc := 82) C 14 dX0_loadHome_82 (by decide) ?_
    exact ih h
set_option maxRecDepth 100000 in
set_option maxHeartbeats 4000000 in
/-- copyHome(entry, node) -/
theorem tS_copyHome (l : Launch) (D : va_G) (h0 : Nat) (ad : Nat → Nat) (cI cZ : ClassId) (σ : ckS) {e1 n : Nat} (he : e1 < 48) (hn : n < 16) : ckV l yX0_copyHome cX0_copyHome 4 (rmD 0) D (csW h0 ad cI cZ) cI cZ [.ref h0, .int (nI e1), .int (nI n)] σ (fun σ1 => σ1 = p_cpH e1 n σ) := by
  refine gg_inV (by decide) (by simp [Value.category]) (Nat.le_of_ble_eq_true rfl) ?_
  intro p e s m args below meth c A C hK
  have S := csS (h0 := h0) (ad := ad) hK
  refine gg_lv (lv1 := [some (.ref h0), some (.int (nI e1)), some (.int (nI n)), none]) rfl ?_
  refine gg_aload_n (pc := 0) C dX0_copyHome_0 rfl rfl ?_
  refine gg_getA (pc := 1) C S 3 (by decide) (Or.inl rfl) q44 dX0_copyHome_1 ?_
  refine gg_iload_n (pc := 4) C dX0_copyHome_4 rfl rfl ?_
  refine gg_aload_n (pc := 5) C dX0_copyHome_5 rfl rfl ?_
  refine gg_getA (pc := 6) C S 7 (by decide) (Or.inl rfl) q48 dX0_copyHome_6 ?_
  refine gg_iload_n (pc := 9) C dX0_copyHome_9 rfl rfl ?_
  refine gg_iald (pc := 10) C S 48 rfl rfl (by omega) (by decide) dX0_copyHome_10 ?_
  refine gg_iast (pc := 11) C S 16 rfl rfl (by omega) (by decide) dX0_copyHome_11 ?_
  refine gg_iconst (pc := 12) (v := nI 0) C dX0_copyHome_12 (by decide) ?_
  refine gg_istore_n (pc := 13) C dX0_copyHome_13 rfl (by decide) rfl ?_
  refine gg_loop (F := GG p l e (rmD 0) s m args below meth c _ D _ A 4 0 0) 14 [] (fun i => [some (.ref h0), some (.int (nI e1)), some (.int (nI n)), some (.int (nI i))]) (fun i => mvN 0 4 1 5 2 6 n e1 i (mv1 3 7 n e1 σ)) 4 (fun i hi ih => ?_)
  refine gg_iload_n (pc := 14) C dX0_copyHome_14 rfl rfl ?_
  refine gg_iconst (pc := 15) (v := nI 4) C dX0_copyHome_15 (by decide) ?_
  refine gg_icmp_geN (pc := 16) C 85 dX0_copyHome_16 (by decide) (by omega) (by omega) (fun h => ?_) (fun h => ?_)
  · obtain rfl : i = 4 := by omega
    exact gg_vret (pc := 85) C dX0_copyHome_85 rfl
  · refine gg_aload_n (pc := 19) C dX0_copyHome_19 rfl rfl ?_
    refine gg_getA (pc := 20) C S 0 (by decide) (Or.inl rfl) q41 dX0_copyHome_20 ?_
    refine gg_iconst (pc := 23) (v := nI 4) C dX0_copyHome_23 (by decide) ?_
    refine gg_iload_n (pc := 24) C dX0_copyHome_24 rfl rfl ?_
    refine gg_imulN (pc := 25) C dX0_copyHome_25 ?_
    refine gg_iload_n (pc := 26) C dX0_copyHome_26 rfl rfl ?_
    refine gg_iaddN (pc := 27) C dX0_copyHome_27 ?_
    refine gg_aload_n (pc := 28) C dX0_copyHome_28 rfl rfl ?_
    refine gg_getA (pc := 29) C S 4 (by decide) (Or.inl rfl) q45 dX0_copyHome_29 ?_
    refine gg_iconst (pc := 32) (v := nI 4) C dX0_copyHome_32 (by decide) ?_
    refine gg_iload_n (pc := 33) C dX0_copyHome_33 rfl rfl ?_
    refine gg_imulN (pc := 34) C dX0_copyHome_34 ?_
    refine gg_iload_n (pc := 35) C dX0_copyHome_35 rfl rfl ?_
    refine gg_iaddN (pc := 36) C dX0_copyHome_36 ?_
    refine gg_iald (pc := 37) C S 192 rfl rfl (by omega) (by decide) dX0_copyHome_37 ?_
    refine gg_iast (pc := 38) C S 64 rfl rfl (by omega) (by decide) dX0_copyHome_38 ?_
    refine gg_aload_n (pc := 39) C dX0_copyHome_39 rfl rfl ?_
    refine gg_getA (pc := 40) C S 1 (by decide) (Or.inl rfl) q42 dX0_copyHome_40 ?_
    refine gg_iconst (pc := 43) (v := nI 4) C dX0_copyHome_43 (by decide) ?_
    refine gg_iload_n (pc := 44) C dX0_copyHome_44 rfl rfl ?_
    refine gg_imulN (pc := 45) C dX0_copyHome_45 ?_
    refine gg_iload_n (pc := 46) C dX0_copyHome_46 rfl rfl ?_
    refine gg_iaddN (pc := 47) C dX0_copyHome_47 ?_
    refine gg_aload_n (pc := 48) C dX0_copyHome_48 rfl rfl ?_
    refine gg_getA (pc := 49) C S 5 (by decide) (Or.inl rfl) q46 dX0_copyHome_49 ?_
    refine gg_iconst (pc := 52) (v := nI 4) C dX0_copyHome_52 (by decide) ?_
    refine gg_iload_n (pc := 53) C dX0_copyHome_53 rfl rfl ?_
    refine gg_imulN (pc := 54) C dX0_copyHome_54 ?_
    refine gg_iload_n (pc := 55) C dX0_copyHome_55 rfl rfl ?_
    refine gg_iaddN (pc := 56) C dX0_copyHome_56 ?_
    refine gg_iald (pc := 57) C S 192 rfl rfl (by omega) (by decide) dX0_copyHome_57 ?_
    refine gg_iast (pc := 58) C S 64 rfl rfl (by omega) (by decide) dX0_copyHome_58 ?_
    refine gg_aload_n (pc := 59) C dX0_copyHome_59 rfl rfl ?_
    refine gg_getA (pc := 60) C S 2 (by decide) (Or.inl rfl) q43 dX0_copyHome_60 ?_
    refine gg_iconst (pc := 63) (v := nI 4) C dX0_copyHome_63 (by decide) ?_
    refine gg_iload_n (pc := 64) C dX0_copyHome_64 rfl rfl ?_
    refine gg_imulN (pc := 65) C dX0_copyHome_65 ?_
    refine gg_iload_n (pc := 66) C dX0_copyHome_66 rfl rfl ?_
    refine gg_iaddN (pc := 67) C dX0_copyHome_67 ?_
    refine gg_aload_n (pc := 68) C dX0_copyHome_68 rfl rfl ?_
    refine gg_getA (pc := 69) C S 6 (by decide) (Or.inl rfl) q47 dX0_copyHome_69 ?_
    refine gg_iconst (pc := 72) (v := nI 4) C dX0_copyHome_72 (by decide) ?_
    refine gg_iload_n (pc := 73) C dX0_copyHome_73 rfl rfl ?_
    refine gg_imulN (pc := 74) C dX0_copyHome_74 ?_
    refine gg_iload_n (pc := 75) C dX0_copyHome_75 rfl rfl ?_
    refine gg_iaddN (pc := 76) C dX0_copyHome_76 ?_
    refine gg_iald (pc := 77) C S 192 rfl rfl (by omega) (by decide) dX0_copyHome_77 ?_
    refine gg_iast (pc := 78) C S 64 rfl rfl (by omega) (by decide) dX0_copyHome_78 ?_
    refine gg_iincN (pc := 79) C dX0_copyHome_79 rfl (by decide) rfl ?_
    refine gg_goto (pc := 82) C 14 dX0_copyHome_82 (by decide) ?_
    exact ih h
set_option maxRecDepth 100000 in
set_option maxHeartbeats 4000000 in
/-- clearLog(log): none of its entries is logged -/
theorem tS_clearLog (l : Launch) (D : va_G) (h0 : Nat) (ad : Nat → Nat) (cI cZ : ClassId) (σ : ckS) {g : Nat} (hg : g < 3) : ckV l yX0_clearLog cX0_clearLog 3 (rmD 0) D (csW h0 ad cI cZ) cI cZ [.ref h0, .int (nI g)] σ (fun σ1 => σ1 = p_clr g 16 σ) := by
  refine gg_inV (by decide) (by simp [Value.category]) (Nat.le_of_ble_eq_true rfl) ?_
  intro p e s m args below meth c A C hK
  have S := csS (h0 := h0) (ad := ad) hK
  refine gg_lv (lv1 := [some (.ref h0), some (.int (nI g)), none]) rfl ?_
  refine gg_iconst (pc := 0) (v := nI 0) C dX0_clearLog_0 (by decide) ?_
  refine gg_istore_n (pc := 1) C dX0_clearLog_1 rfl (by decide) rfl ?_
  refine gg_loop (F := GG p l e (rmD 0) s m args below meth c _ D _ A 3 0 0) 2 [] (fun i => [some (.ref h0), some (.int (nI g)), some (.int (nI i))]) (fun i => p_clr g i σ) 16 (fun i hi ih => ?_)
  refine gg_iload_n (pc := 2) C dX0_clearLog_2 rfl rfl ?_
  refine gg_bipush (pc := 3) (v := nI 16) C dX0_clearLog_3 (by decide) ?_
  refine gg_icmp_geN (pc := 5) C 26 dX0_clearLog_5 (by decide) (by omega) (by omega) (fun h => ?_) (fun h => ?_)
  · obtain rfl : i = 16 := by omega
    exact gg_vret (pc := 26) C dX0_clearLog_26 rfl
  · refine gg_aload_n (pc := 8) C dX0_clearLog_8 rfl rfl ?_
    refine gg_getA (pc := 9) C S 8 (by decide) (Or.inr rfl) q49 dX0_clearLog_9 ?_
    refine gg_bipush (pc := 12) (v := nI 16) C dX0_clearLog_12 (by decide) ?_
    refine gg_iload_n (pc := 14) C dX0_clearLog_14 rfl rfl ?_
    refine gg_imulN (pc := 15) C dX0_clearLog_15 ?_
    refine gg_iload_n (pc := 16) C dX0_clearLog_16 rfl rfl ?_
    refine gg_iaddN (pc := 17) C dX0_clearLog_17 ?_
    refine gg_iconst (pc := 18) (v := nI 0) C dX0_clearLog_18 (by decide) ?_
    refine gg_zast (pc := 19) C S 48 rfl rfl (by omega) (by decide) (by decide) dX0_clearLog_19 ?_
    refine gg_iincN (pc := 20) C dX0_clearLog_20 rfl (by decide) rfl ?_
    refine gg_goto (pc := 23) C 2 dX0_clearLog_23 (by decide) ?_
    exact ih h
set_option maxRecDepth 100000 in
set_option maxHeartbeats 4000000 in
/-- unusedLog(): a log that is neither the settled one nor the open one -/
theorem tS_unusedLog (l : Launch) (D : va_G) (h0 : Nat) (ad : Nat → Nat) (cI cZ : ClassId) (σ : ckS)  : ckI l yX0_unusedLog cX0_unusedLog 2 (some .int) (rmD 0) D (csW h0 ad cI cZ) cI cZ [.ref h0] σ (fun r σ1 => σ1 = σ ∧ ((∃ q, q < 3 ∧ r = nI q ∧ nI q ≠ σ 9 0 ∧ nI q ≠ σ 18 0) ∨ ∀ q, q < 3 → nI q = σ 9 0 ∨ nI q = σ 18 0)) := by
  refine gg_inI (by decide) (by simp [Value.category]) (Nat.le_of_ble_eq_true rfl) ?_
  intro p e s m args below meth c A C hK
  have S := csS (h0 := h0) (ad := ad) hK
  refine gg_lv (lv1 := [some (.ref h0), none]) rfl ?_
  refine gg_iconst (pc := 0) (v := nI 0) C dX0_unusedLog_0 (by decide) ?_
  refine gg_istore_n (pc := 1) C dX0_unusedLog_1 rfl (by decide) rfl ?_
  refine gg_loopX (F := GG p l e (rmD 0) s m args below meth c _ D _ A 2 0 0) 2 [] (fun i _ => [some (.ref h0), some (.int (nI i))]) (fun _ : Unit => σ) (fun i _ => ∀ q, q < i → nI q = σ 9 0 ∨ nI q = σ 18 0) 3 (fun i _ hi hI ih => ?_) () 0 (by omega) (fun q hq => absurd hq (by omega))
  refine gg_iload_n (pc := 2) C dX0_unusedLog_2 rfl rfl ?_
  refine gg_iconst (pc := 3) (v := nI 3) C dX0_unusedLog_3 (by decide) ?_
  refine gg_icmp_geN (pc := 4) C 31 dX0_unusedLog_4 (by decide) (by omega) (by omega) (fun h => ?_) (fun h => ?_)
  · refine gg_iconst (pc := 31) (v := nI 0) C dX0_unusedLog_31 (by decide) ?_
    exact gg_iret (pc := 32) C dX0_unusedLog_32 ⟨rfl, Or.inr (fun q hq => hI q (by omega))⟩
  · have nx : (nI i = σ 9 0 ∨ nI i = σ 18 0) → GG p l e (rmD 0) s m args below meth c (MQ below (va_Qi (fun r σ1 => σ1 = σ ∧ ((∃ q, q < 3 ∧ r = nI q ∧ nI q ≠ σ 9 0 ∧ nI q ≠ σ 18 0) ∨ ∀ q, q < 3 → nI q = σ 9 0 ∨ nI q = σ 18 0)) (ckB D (csW h0 ad cI cZ) A) A) args s 0 0 A) D (csW h0 ad cI cZ) A 2 0 0 25 [some (.ref h0), some (.int (nI i))] [] σ := by
      intro hx
      refine gg_iincN (pc := 25) C dX0_unusedLog_25 rfl (by decide) rfl ?_
      refine gg_goto (pc := 28) C 2 dX0_unusedLog_28 (by decide) ?_
      exact ih () h (fun q hq => by
        rcases Nat.lt_or_ge q i with z | z
        · exact hI q z
        · rw [show q = i by omega]; exact hx)
    refine gg_iload_n (pc := 7) C dX0_unusedLog_7 rfl rfl ?_
    refine gg_aload_n (pc := 8) C dX0_unusedLog_8 rfl rfl ?_
    refine gg_getI (pc := 9) C S 9 (by decide) rfl q50 dX0_unusedLog_9 ?_
    refine gg_icmp_eq (pc := 12) C 25 dX0_unusedLog_12 (by decide) (fun h1 => ?_) (fun h1 => ?_)
    · exact nx (Or.inl h1)
    · refine gg_iload_n (pc := 15) C dX0_unusedLog_15 rfl rfl ?_
      refine gg_aload_n (pc := 16) C dX0_unusedLog_16 rfl rfl ?_
      refine gg_getI (pc := 17) C S 18 (by decide) rfl q59 dX0_unusedLog_17 ?_
      refine gg_icmp_eq (pc := 20) C 25 dX0_unusedLog_20 (by decide) (fun h2 => ?_) (fun h2 => ?_)
      · exact nx (Or.inr h2)
      · refine gg_iload_n (pc := 23) C dX0_unusedLog_23 rfl rfl ?_
        exact gg_iret (pc := 24) C dX0_unusedLog_24 ⟨rfl, Or.inl ⟨i, h, rfl, h1, h2⟩⟩
/-- which log holds a node's newest copy -/
def p_old (σ : ckS) (mk : Option Nat) (n : Nat) : Option Nat := match mk with
  | some m => if σ 8 (16 * m + n) = 0 then none else some m
  | none => none
def p_new (σ : ckS) (mk op : Option Nat) (pl n : Nat) : Option Nat := if σ 8 (16 * pl + n) = 0 then (match op with
  | some o => if σ 8 (16 * o + n) = 0 then p_old σ mk n else some o
  | none => p_old σ mk n) else some pl
theorem oI_lt : ∀ o : Option Nat, (∀ m, o = some m → m < 3) → (oI o < 0 ↔ o = none) := by
  intro o h
  cases o with
  | none => exact ⟨fun _ => rfl, fun _ => by decide⟩
  | some m => exact ⟨fun z => absurd z (nI_pos (by have := h m rfl; omega)), fun z => by simp at z⟩
set_option maxRecDepth 100000 in
set_option maxHeartbeats 4000000 in
/-- newestLog(node) -/
theorem tS_newestLog (l : Launch) (D : va_G) (h0 : Nat) (ad : Nat → Nat) (cI cZ : ClassId) (σ : ckS) {mk op : Option Nat} {pl n : Nat} (hm : σ 9 0 = oI mk) (ho : σ 18 0 = oI op) (hp : σ 19 0 = nI pl) (hm3 : ∀ m, mk = some m → m < 3) (ho3 : ∀ o, op = some o → o < 3) (hp3 : pl < 3) (hn : n < 16) : ckI l yX0_newestLog cX0_newestLog 2 (some .int) (rmD 0) D (csW h0 ad cI cZ) cI cZ [.ref h0, .int (nI n)] σ (fun r σ1 => σ1 = σ ∧ r = oI (p_new σ mk op pl n)) := by
  refine gg_inI (by decide) (by simp [Value.category]) (Nat.le_of_ble_eq_true rfl) ?_
  intro p e s m args below meth c A C hK
  have S := csS (h0 := h0) (ad := ad) hK
  refine gg_lv (lv1 := [some (.ref h0), some (.int (nI n))]) rfl ?_
  have lst : p_new σ mk op pl n = p_old σ mk n → GG p l e (rmD 0) s m args below meth c (MQ below (va_Qi (fun r σ1 => σ1 = σ ∧ r = oI (p_new σ mk op pl n)) (ckB D (csW h0 ad cI cZ) A) A) args s 0 0 A) D (csW h0 ad cI cZ) A 2 0 0 51 [some (.ref h0), some (.int (nI n))] [] σ := by
    intro hr
    refine gg_aload_n (pc := 51) C dX0_newestLog_51 rfl rfl ?_
    refine gg_getI (pc := 52) C S 9 (by decide) rfl q50 dX0_newestLog_52 ?_
    refine gg_top hm ?_
    refine gg_if_lt (pc := 55) C 82 dX0_newestLog_55 (by decide) (fun h1 => ?_) (fun h1 => ?_)
    · have e0 := (oI_lt mk hm3).mp h1
      subst e0
      refine gg_iconst (pc := 82) (v := -1) C dX0_newestLog_82 (by decide) ?_
      exact gg_iret (pc := 83) C dX0_newestLog_83 ⟨rfl, by rw [hr]; rfl⟩
    · cases mk with
      | none => exact absurd (by decide) h1
      | some k =>
        have hk := hm3 k rfl
        refine gg_aload_n (pc := 58) C dX0_newestLog_58 rfl rfl ?_
        refine gg_getA (pc := 59) C S 8 (by decide) (Or.inr rfl) q49 dX0_newestLog_59 ?_
        refine gg_bipush (pc := 62) (v := nI 16) C dX0_newestLog_62 (by decide) ?_
        refine gg_aload_n (pc := 64) C dX0_newestLog_64 rfl rfl ?_
        refine gg_getI (pc := 65) C S 9 (by decide) rfl q50 dX0_newestLog_65 ?_
        refine gg_top hm ?_
        refine gg_imulN (pc := 68) C dX0_newestLog_68 ?_
        refine gg_iload_n (pc := 69) C dX0_newestLog_69 rfl rfl ?_
        refine gg_iaddN (pc := 70) C dX0_newestLog_70 ?_
        refine gg_zald (pc := 71) C S 48 rfl rfl (by omega) (by decide) dX0_newestLog_71 ?_
        refine gg_if_eq (pc := 72) C 82 dX0_newestLog_72 (by decide) (fun h2 => ?_) (fun h2 => ?_)
        · refine gg_iconst (pc := 82) (v := -1) C dX0_newestLog_82 (by decide) ?_
          exact gg_iret (pc := 83) C dX0_newestLog_83 ⟨rfl, by rw [hr]; simp only [p_old, if_pos h2]; rfl⟩
        · refine gg_aload_n (pc := 75) C dX0_newestLog_75 rfl rfl ?_
          refine gg_getI (pc := 76) C S 9 (by decide) rfl q50 dX0_newestLog_76 ?_
          refine gg_top hm ?_
          refine gg_goto (pc := 79) C 83 dX0_newestLog_79 (by decide) ?_
          exact gg_iret (pc := 83) C dX0_newestLog_83 ⟨rfl, by rw [hr]; simp only [p_old, if_neg h2]⟩
  refine gg_aload_n (pc := 0) C dX0_newestLog_0 rfl rfl ?_
  refine gg_getA (pc := 1) C S 8 (by decide) (Or.inr rfl) q49 dX0_newestLog_1 ?_
  refine gg_bipush (pc := 4) (v := nI 16) C dX0_newestLog_4 (by decide) ?_
  refine gg_aload_n (pc := 6) C dX0_newestLog_6 rfl rfl ?_
  refine gg_getI (pc := 7) C S 19 (by decide) rfl q60 dX0_newestLog_7 ?_
  refine gg_top hp ?_
  refine gg_imulN (pc := 10) C dX0_newestLog_10 ?_
  refine gg_iload_n (pc := 11) C dX0_newestLog_11 rfl rfl ?_
  refine gg_iaddN (pc := 12) C dX0_newestLog_12 ?_
  refine gg_zald (pc := 13) C S 48 rfl rfl (by omega) (by decide) dX0_newestLog_13 ?_
  refine gg_if_eq (pc := 14) C 22 dX0_newestLog_14 (by decide) (fun h1 => ?_) (fun h1 => ?_)
  · refine gg_aload_n (pc := 22) C dX0_newestLog_22 rfl rfl ?_
    refine gg_getI (pc := 23) C S 18 (by decide) rfl q59 dX0_newestLog_23 ?_
    refine gg_top ho ?_
    refine gg_if_lt (pc := 26) C 51 dX0_newestLog_26 (by decide) (fun h2 => ?_) (fun h2 => ?_)
    · have e0 := (oI_lt op ho3).mp h2
      subst e0
      exact lst (by simp only [p_new, if_pos h1])
    · cases op with
      | none => exact absurd (by decide) h2
      | some k =>
        have hk := ho3 k rfl
        refine gg_aload_n (pc := 29) C dX0_newestLog_29 rfl rfl ?_
        refine gg_getA (pc := 30) C S 8 (by decide) (Or.inr rfl) q49 dX0_newestLog_30 ?_
        refine gg_bipush (pc := 33) (v := nI 16) C dX0_newestLog_33 (by decide) ?_
        refine gg_aload_n (pc := 35) C dX0_newestLog_35 rfl rfl ?_
        refine gg_getI (pc := 36) C S 18 (by decide) rfl q59 dX0_newestLog_36 ?_
        refine gg_top ho ?_
        refine gg_imulN (pc := 39) C dX0_newestLog_39 ?_
        refine gg_iload_n (pc := 40) C dX0_newestLog_40 rfl rfl ?_
        refine gg_iaddN (pc := 41) C dX0_newestLog_41 ?_
        refine gg_zald (pc := 42) C S 48 rfl rfl (by omega) (by decide) dX0_newestLog_42 ?_
        refine gg_if_eq (pc := 43) C 51 dX0_newestLog_43 (by decide) (fun h3 => ?_) (fun h3 => ?_)
        · exact lst (by simp only [p_new, if_pos h1, if_pos h3])
        · refine gg_aload_n (pc := 46) C dX0_newestLog_46 rfl rfl ?_
          refine gg_getI (pc := 47) C S 18 (by decide) rfl q59 dX0_newestLog_47 ?_
          refine gg_top ho ?_
          exact gg_iret (pc := 50) C dX0_newestLog_50 ⟨rfl, by simp only [p_new, if_pos h1, if_neg h3]⟩
  · refine gg_aload_n (pc := 17) C dX0_newestLog_17 rfl rfl ?_
    refine gg_getI (pc := 18) C S 19 (by decide) rfl q60 dX0_newestLog_18 ?_
    refine gg_top hp ?_
    exact gg_iret (pc := 21) C dX0_newestLog_21 ⟨rfl, by simp only [p_new, if_neg h1]; rfl⟩
end
section
/-! WALKS of the store's frames: saveFrozen, evict, makeWritable, load, frameFor -/
theorem inv_mk {σ1 : ckS} {mk op : Option Nat} {pl : Nat} {P O S : Nat → ckR} {L ND DY FZ : Nat → Int32} {lg hm fr : Nat → ckR} (w : ckWf L ND DY FZ mk op pl) (r : ckRp L lg hm fr ND DY FZ mk op pl P O S) (e8 : σ1 8 = L) (el : ckLg σ1 = lg) (eh : ckHm σ1 = hm) (ef : ckFr σ1 = fr) (e10 : σ1 10 = ND) (e11 : σ1 11 = DY) (e12 : σ1 12 = FZ) (s1 : σ1 9 0 = oI mk) (s2 : σ1 18 0 = oI op) (s3 : σ1 19 0 = nI pl) (s4 : ∃ h, h < 5 ∧ σ1 17 0 = nI h) : ckInv σ1 mk op pl P O S := by
  subst e8; subst el; subst eh; subst ef; subst e10; subst e11; subst e12
  exact ⟨s1, s2, s3, s4, w, r⟩
section IV2
variable {σ : ckS} {mk op : Option Nat} {pl : Nat} {P O S : Nat → ckR}
theorem inv_saveFz (h : ckInv σ mk op pl P O S) {f n o : Nat} (hf : f < 5) (hn : n < 16) (hN : σ 10 f = nI n) (hF : σ 12 f = 1) (ho : op = some o) {σ1 : ckS} (e1 : σ1 = ckUp (ckUp (p_save f (16 * o + n) σ) 12 (upd (p_save f (16 * o + n) σ 12) f 0)) 11 (upd (p_save f (16 * o + n) σ 11) f 0)) : ckInv σ1 mk op pl P O S ∧ σ1 10 = σ 10 ∧ σ1 11 = upd (σ 11) f 0 ∧ σ1 12 = upd (σ 12) f 0 := by
  obtain ⟨s1, s2, s3, s4, w, r⟩ := h
  have k : ∀ k, k < 4 ∨ 9 ≤ k → k ≠ 11 → k ≠ 12 → σ1 k = σ k := by
    intro k hk h1 h2
    rw [e1, kUp_n h1, kUp_n h2, p_save_k _ _ _ _ hk]
  have k11 : σ1 11 = upd (σ 11) f 0 := by rw [e1, kUp_s, p_save_k _ _ _ _ (Or.inr (by omega))]
  have k12 : σ1 12 = upd (σ 12) f 0 := by rw [e1, kUp_n (by omega), kUp_s, p_save_k _ _ _ _ (Or.inr (by omega))]
  have k10 := k 10 (Or.inr (by omega)) (by omega) (by omega)
  obtain ⟨w1, r1⟩ := iv_saveFz w r hf hn hN hF ho
  refine ⟨inv_mk w1 r1 ?_ ?_ (ck_hmk fun j hj => k j (Or.inl hj) (by omega) (by omega)) (ck_frk fun j hj h2 => k j (Or.inr (by omega)) (by omega) (by omega)) k10 k11 k12 ?_ ?_ ?_ ?_, k10, k11, k12⟩
  · rw [e1, kUp_n (by omega), kUp_n (by omega), p_save_8]
  · rw [← p_save_lg]
    exact ck_lgk fun j h1 h2 => by rw [e1, kUp_n (by omega), kUp_n (by omega)]
  · rw [k 9 (Or.inr (by omega)) (by omega) (by omega)]; exact s1
  · rw [k 18 (Or.inr (by omega)) (by omega) (by omega)]; exact s2
  · rw [k 19 (Or.inr (by omega)) (by omega) (by omega)]; exact s3
  · rw [k 17 (Or.inr (by omega)) (by omega) (by omega)]; exact s4
theorem inv_saveP (h : ckInv σ mk op pl P O S) {f n : Nat} (hf : f < 5) (hn : n < 16) (hN : σ 10 f = nI n) (hF : σ 12 f = 0) {σ1 : ckS} (e1 : σ1 = ckUp (p_save f (16 * pl + n) σ) 11 (upd (p_save f (16 * pl + n) σ 11) f 0)) : ckInv σ1 mk op pl P O S ∧ σ1 10 = σ 10 ∧ σ1 11 = upd (σ 11) f 0 ∧ σ1 12 = σ 12 := by
  obtain ⟨s1, s2, s3, s4, w, r⟩ := h
  have k : ∀ k, k < 4 ∨ 9 ≤ k → k ≠ 11 → σ1 k = σ k := by
    intro k hk h1
    rw [e1, kUp_n h1, p_save_k _ _ _ _ hk]
  have k11 : σ1 11 = upd (σ 11) f 0 := by rw [e1, kUp_s, p_save_k _ _ _ _ (Or.inr (by omega))]
  have k10 := k 10 (Or.inr (by omega)) (by omega)
  have k12 := k 12 (Or.inr (by omega)) (by omega)
  obtain ⟨w1, r1⟩ := iv_saveP w r hf hn hN hF
  refine ⟨inv_mk w1 r1 ?_ ?_ (ck_hmk fun j hj => k j (Or.inl hj) (by omega)) (ck_frk fun j hj h2 => k j (Or.inr (by omega)) (by omega)) k10 k11 k12 ?_ ?_ ?_ ?_, k10, k11, k12⟩
  · rw [e1, kUp_n (by omega), p_save_8]
  · rw [← p_save_lg]
    exact ck_lgk fun j h1 h2 => by rw [e1, kUp_n (by omega)]
  · rw [k 9 (Or.inr (by omega)) (by omega)]; exact s1
  · rw [k 18 (Or.inr (by omega)) (by omega)]; exact s2
  · rw [k 19 (Or.inr (by omega)) (by omega)]; exact s3
  · rw [k 17 (Or.inr (by omega)) (by omega)]; exact s4
theorem inv_drop (h : ckInv σ mk op pl P O S) {f : Nat} (hf : f < 5) (hD : σ 11 f = 0) (hF : σ 12 f = 0) : ckInv (ckUp σ 10 (upd (σ 10) f (-1))) mk op pl P O S := by
  obtain ⟨s1, s2, s3, s4, w, r⟩ := h
  obtain ⟨w1, r1⟩ := iv_drop w r hf hD hF
  exact ⟨s1, s2, s3, s4, w1, r1⟩
theorem inv_dirty (h : ckInv σ mk op pl P O S) {f n : Nat} (hf : f < 5) (hn : n < 16) (hN : σ 10 f = nI n) (hF : σ 12 f = 0) : ckInv (ckUp σ 11 (upd (σ 11) f 1)) mk op pl P O S := by
  obtain ⟨s1, s2, s3, s4, w, r⟩ := h
  obtain ⟨w1, r1⟩ := iv_dirty w r hf hn hN hF
  exact ⟨s1, s2, s3, s4, w1, r1⟩
theorem nw_new (w : ckWf (σ 8) (σ 10) (σ 11) (σ 12) mk op pl) {n : Nat} (hn : n < 16) : ckNw (σ 8) (ckLg σ) (ckHm σ) mk op pl n = match p_new σ mk op pl n with
    | none => ckHm σ n
    | some k => ckLg σ (16 * k + n) := by
  obtain ⟨w1, w2, w3, w4, w5, w6, w7, w8, w9, w10, w11⟩ := w
  have old : ckSt (σ 8) (ckLg σ) (ckHm σ) mk n = match p_old σ mk n with
    | none => ckHm σ n
    | some k => ckLg σ (16 * k + n) := by
    unfold ckSt p_old
    cases mk with
    | none => rfl
    | some m =>
      have hm := (w2 m rfl).1
      rcases w11 (16 * m + n) (by omega) with z | z
      · rw [nlk_0 z]; simp only [if_pos z]
      · have z1 : ¬ σ 8 (16 * m + n) = 0 := by rw [z]; exact i_10
        rw [nlk_1 z]; simp only [if_neg z1]
  unfold ckNw p_new
  rcases w11 (16 * pl + n) (by omega) with z | z
  · rw [nlk_0 z, if_pos z]
    unfold ckOb
    cases op with
    | none => exact old
    | some o =>
      have ho := (w3 o rfl).1
      rcases w11 (16 * o + n) (by omega) with y | y
      · rw [nlk_0 y]; simp only [if_pos y]; exact old
      · have y1 : ¬ σ 8 (16 * o + n) = 0 := by rw [y]; exact i_10
        rw [nlk_1 y]; simp only [if_neg y1]
  · have z1 : ¬ σ 8 (16 * pl + n) = 0 := by rw [z]; exact i_10
    rw [nlk_1 z, if_neg z1]
theorem inv_load (h : ckInv σ mk op pl P O S) {f n : Nat} (hf : f < 5) (hn : n < 16) (hE : σ 10 f = -1) (hno : ∀ g, g < 5 → σ 10 g ≠ nI n) {σ1 : ckS} (hk : ∀ k, k < 10 ∨ 17 ≤ k → σ1 k = σ k) (e10 : σ1 10 = upd (σ 10) f (nI n)) (e11 : σ1 11 = upd (σ 11) f 0) (e12 : σ1 12 = upd (σ 12) f 0) (hfr : ckFr σ1 = updR (ckFr σ) f (match p_new σ mk op pl n with
    | none => ckHm σ n
    | some k => ckLg σ (16 * k + n))) : ckInv σ1 mk op pl P O S ∧ σ1 10 f = nI n := by
  obtain ⟨s1, s2, s3, s4, w, r⟩ := h
  obtain ⟨w1, r1⟩ := iv_load w r hf hn hE hno
  rw [nw_new w hn, ← hfr] at r1
  refine ⟨inv_mk w1 r1 (hk 8 (by omega)) (ck_lgk fun j _ h2 => hk j (by omega)) (ck_hmk fun j hj => hk j (by omega)) rfl e10 e11 e12 (by rw [hk 9 (by omega)]; exact s1) (by rw [hk 18 (by omega)]; exact s2) (by rw [hk 19 (by omega)]; exact s3) (by rw [hk 17 (by omega)]; exact s4), by rw [e10, up_s]⟩
end IV2
set_option maxRecDepth 100000 in
set_option maxHeartbeats 4000000 in
/-- saveFrozen(f): a frozen frame goes to the open log -/
theorem tS_saveFrozen (l : Launch) (D : va_G) (h0 : Nat) (ad : Nat → Nat) (cI cZ : ClassId) (σ : ckS) {mk op : Option Nat} {pl : Nat} {P O Sv : Nat → ckR} (hI : ckInv σ mk op pl P O Sv) {f : Nat} (hf : f < 5) (hF : σ 12 f = 1) : ckV l yX0_saveFrozen cX0_saveFrozen 2 (rmD 1) D (csW h0 ad cI cZ) cI cZ [.ref h0, .int (nI f)] σ (fun σ1 => ckInv σ1 mk op pl P O Sv ∧ σ1 10 = σ 10 ∧ σ1 11 = upd (σ 11) f 0 ∧ σ1 12 = upd (σ 12) f 0) := by
  refine gg_inV (by decide) (by simp [Value.category]) (Nat.le_of_ble_eq_true rfl) ?_
  intro p e s m args below meth c A C hK
  have S := csS (h0 := h0) (ad := ad) hK
  refine gg_lv (lv1 := [some (.ref h0), some (.int (nI f))]) rfl ?_
  have hI0 := hI
  obtain ⟨s1, s2, s3, s4, ⟨w1, w2, w3, w4, w5, w6, w7, w8, w9, w10, w11⟩, r⟩ := hI
  obtain ⟨d1, d2⟩ := w8 f hf hF
  cases op with
  | none => exact absurd rfl d2
  | some o =>
    have ho := (w3 o rfl).1
    rcases w4 f hf with z | ⟨n, hn, hN⟩
    · exact absurd z (w10 f hf d1)
    · refine gg_aload_n (pc := 0) C dX0_saveFrozen_0 rfl rfl ?_
      refine gg_iload_n (pc := 1) C dX0_saveFrozen_1 rfl rfl ?_
      refine gg_aload_n (pc := 2) C dX0_saveFrozen_2 rfl rfl ?_
      refine gg_getI (pc := 3) C S 18 (by decide) rfl q59 dX0_saveFrozen_3 ?_
      refine gg_top s2 ?_
      refine gg_callV (pc := 6) C S (n := 2) [.int (nI f), .int (nI o)] (tS_save l D h0 ad cI cZ σ hf ho hn hN) (lw_V q127 q129 qs7 q19 q130) (by decide +kernel) ⟨by decide, by decide⟩ rfl rfl rfl rfl (Nat.le_of_ble_eq_true rfl) dX0_saveFrozen_6 ⟨by decide, by decide⟩ (fun σ1 e1 => ?_)
      subst e1
      refine gg_aload_n (pc := 9) C dX0_saveFrozen_9 rfl rfl ?_
      refine gg_getA (pc := 10) C S 12 (by decide) (Or.inr rfl) q53 dX0_saveFrozen_10 ?_
      refine gg_iload_n (pc := 13) C dX0_saveFrozen_13 rfl rfl ?_
      refine gg_iconst (pc := 14) (v := nI 0) C dX0_saveFrozen_14 (by decide) ?_
      refine gg_zast (pc := 15) C S 5 rfl rfl (by omega) (by decide) (by decide) dX0_saveFrozen_15 ?_
      refine gg_aload_n (pc := 16) C dX0_saveFrozen_16 rfl rfl ?_
      refine gg_getA (pc := 17) C S 11 (by decide) (Or.inr rfl) q52 dX0_saveFrozen_17 ?_
      refine gg_iload_n (pc := 20) C dX0_saveFrozen_20 rfl rfl ?_
      refine gg_iconst (pc := 21) (v := nI 0) C dX0_saveFrozen_21 (by decide) ?_
      refine gg_zast (pc := 22) C S 5 rfl rfl (by omega) (by decide) (by decide) dX0_saveFrozen_22 ?_
      exact gg_vret (pc := 23) C dX0_saveFrozen_23 (inv_saveFz hI0 hf hn hN hF rfl rfl)
set_option maxRecDepth 100000 in
set_option maxHeartbeats 4000000 in
/-- evict(f): the frame is empty then -/
theorem tS_evict (l : Launch) (D : va_G) (h0 : Nat) (ad : Nat → Nat) (cI cZ : ClassId) (σ : ckS) {mk op : Option Nat} {pl : Nat} {P O Sv : Nat → ckR} (hI : ckInv σ mk op pl P O Sv) {f : Nat} (hf : f < 5) : ckV l yX0_evict cX0_evict 2 (rmD 2) D (csW h0 ad cI cZ) cI cZ [.ref h0, .int (nI f)] σ (fun σ1 => ckInv σ1 mk op pl P O Sv ∧ σ1 10 = upd (σ 10) f (-1)) := by
  refine gg_inV (by decide) (by simp [Value.category]) (Nat.le_of_ble_eq_true rfl) ?_
  intro p e s m args below meth c A C hK
  have S := csS (h0 := h0) (ad := ad) hK
  refine gg_lv (lv1 := [some (.ref h0), some (.int (nI f))]) rfl ?_
  have tl : ∀ σ1 : ckS, ckInv σ1 mk op pl P O Sv → σ1 10 = σ 10 → σ1 11 f = 0 → σ1 12 f = 0 → GG p l e (rmD 2) s m args below meth c (MQ below (va_Qv (fun σ1 => ckInv σ1 mk op pl P O Sv ∧ σ1 10 = upd (σ 10) f (-1)) (ckB D (csW h0 ad cI cZ) A) A) args s 0 0 A) D (csW h0 ad cI cZ) A 2 0 0 51 [some (.ref h0), some (.int (nI f))] [] σ1 := by
    intro σ1 i1 e1 z1 z2
    refine gg_aload_n (pc := 51) C dX0_evict_51 rfl rfl ?_
    refine gg_getA (pc := 52) C S 10 (by decide) (Or.inl rfl) q51 dX0_evict_52 ?_
    refine gg_iload_n (pc := 55) C dX0_evict_55 rfl rfl ?_
    refine gg_iconst (pc := 56) (v := -1) C dX0_evict_56 (by decide) ?_
    refine gg_iast (pc := 57) C S 5 rfl rfl (by omega) (by decide) dX0_evict_57 ?_
    exact gg_vret (pc := 58) C dX0_evict_58 ⟨inv_drop i1 hf z1 z2, by rw [kUp_s, e1]⟩
  have hI0 := hI
  obtain ⟨s1, s2, s3, s4, ⟨w1, w2, w3, w4, w5, w6, w7, w8, w9, w10, w11⟩, r⟩ := hI
  have fz : σ 11 f = 0 → σ 12 f = 0 := by
    intro z
    rcases w7 f hf with y | y
    · exact y
    · have := (w8 f hf y).1
      rw [z] at this
      exact absurd this i_01
  refine gg_aload_n (pc := 0) C dX0_evict_0 rfl rfl ?_
  refine gg_getA (pc := 1) C S 10 (by decide) (Or.inl rfl) q51 dX0_evict_1 ?_
  refine gg_iload_n (pc := 4) C dX0_evict_4 rfl rfl ?_
  refine gg_iald (pc := 5) C S 5 rfl rfl (by omega) (by decide) dX0_evict_5 ?_
  refine gg_if_lt (pc := 6) C 51 dX0_evict_6 (by decide) (fun h1 => ?_) (fun h1 => ?_)
  · have hz : σ 11 f = 0 := by
      rcases w6 f hf with y | y
      · exact y
      · rcases w4 f hf with x | ⟨n, hn, x⟩
        · exact absurd x (w10 f hf y)
        · rw [x] at h1; exact absurd h1 (nI_pos (by omega))
    exact tl σ hI0 rfl hz (fz hz)
  · rcases w4 f hf with x | ⟨n, hn, hN⟩
    · rw [x] at h1; exact absurd (by decide) h1
    refine gg_aload_n (pc := 9) C dX0_evict_9 rfl rfl ?_
    refine gg_getA (pc := 10) C S 11 (by decide) (Or.inr rfl) q52 dX0_evict_10 ?_
    refine gg_iload_n (pc := 13) C dX0_evict_13 rfl rfl ?_
    refine gg_zald (pc := 14) C S 5 rfl rfl (by omega) (by decide) dX0_evict_14 ?_
    refine gg_if_eq (pc := 15) C 51 dX0_evict_15 (by decide) (fun h2 => ?_) (fun h2 => ?_)
    · exact tl σ hI0 rfl h2 (fz h2)
    · refine gg_aload_n (pc := 18) C dX0_evict_18 rfl rfl ?_
      refine gg_getA (pc := 19) C S 12 (by decide) (Or.inr rfl) q53 dX0_evict_19 ?_
      refine gg_iload_n (pc := 22) C dX0_evict_22 rfl rfl ?_
      refine gg_zald (pc := 23) C S 5 rfl rfl (by omega) (by decide) dX0_evict_23 ?_
      refine gg_if_eq (pc := 24) C 35 dX0_evict_24 (by decide) (fun h3 => ?_) (fun h3 => ?_)
      · refine gg_aload_n (pc := 35) C dX0_evict_35 rfl rfl ?_
        refine gg_iload_n (pc := 36) C dX0_evict_36 rfl rfl ?_
        refine gg_aload_n (pc := 37) C dX0_evict_37 rfl rfl ?_
        refine gg_getI (pc := 38) C S 19 (by decide) rfl q60 dX0_evict_38 ?_
        refine gg_top s3 ?_
        refine gg_callV (pc := 41) C S (n := 2) [.int (nI f), .int (nI pl)] (tS_save l D h0 ad cI cZ σ hf w1 hn hN) (lw_V q127 q129 qs7 q19 q130) (by decide +kernel) ⟨by decide, by decide⟩ rfl rfl rfl rfl (Nat.le_of_ble_eq_true rfl) dX0_evict_41 ⟨by decide, by decide⟩ (fun σ1 e1 => ?_)
        subst e1
        refine gg_aload_n (pc := 44) C dX0_evict_44 rfl rfl ?_
        refine gg_getA (pc := 45) C S 11 (by decide) (Or.inr rfl) q52 dX0_evict_45 ?_
        refine gg_iload_n (pc := 48) C dX0_evict_48 rfl rfl ?_
        refine gg_iconst (pc := 49) (v := nI 0) C dX0_evict_49 (by decide) ?_
        refine gg_zast (pc := 50) C S 5 rfl rfl (by omega) (by decide) (by decide) dX0_evict_50 ?_
        obtain ⟨i1, e10, e11, e12⟩ := inv_saveP hI0 hf hn hN h3 rfl
        exact tl _ i1 e10 ((congrFun e11 f).trans up_s) ((congrFun e12 f).trans h3)
      · have h4 : σ 12 f = 1 := by
          rcases w7 f hf with y | y
          · exact absurd y h3
          · exact y
        refine gg_aload_n (pc := 27) C dX0_evict_27 rfl rfl ?_
        refine gg_iload_n (pc := 28) C dX0_evict_28 rfl rfl ?_
        refine gg_callV (pc := 29) C S (n := 1) [.int (nI f)] (tS_saveFrozen l D h0 ad cI cZ σ hI0 hf h4) (lw_V q123 q125 qs6 q19 q126) (by decide +kernel) ⟨by decide, by decide⟩ rfl rfl rfl rfl (Nat.le_of_ble_eq_true rfl) dX0_evict_29 ⟨by decide, by decide⟩ (fun σ1 e1 => ?_)
        obtain ⟨i1, e10, e11, e12⟩ := e1
        refine gg_goto (pc := 32) C 51 dX0_evict_32 (by decide) ?_
        exact tl _ i1 e10 (by rw [e11, up_s]) (by rw [e12, up_s])
set_option maxRecDepth 100000 in
set_option maxHeartbeats 4000000 in
/-- makeWritable(f): the frame belongs to the present generation, and is marked as changed -/
theorem tS_makeWritable (l : Launch) (D : va_G) (h0 : Nat) (ad : Nat → Nat) (cI cZ : ClassId) (σ : ckS) {mk op : Option Nat} {pl : Nat} {P O Sv : Nat → ckR} (hI : ckInv σ mk op pl P O Sv) {f n : Nat} (hf : f < 5) (hn : n < 16) (hN : σ 10 f = nI n) : ckV l yX0_makeWritable cX0_makeWritable 2 (rmD 2) D (csW h0 ad cI cZ) cI cZ [.ref h0, .int (nI f)] σ (fun σ1 => ckInv σ1 mk op pl P O Sv ∧ σ1 10 = σ 10 ∧ σ1 11 f = 1 ∧ σ1 12 f = 0) := by
  refine gg_inV (by decide) (by simp [Value.category]) (Nat.le_of_ble_eq_true rfl) ?_
  intro p e s m args below meth c A C hK
  have S := csS (h0 := h0) (ad := ad) hK
  refine gg_lv (lv1 := [some (.ref h0), some (.int (nI f))]) rfl ?_
  have tl : ∀ σ1 : ckS, ckInv σ1 mk op pl P O Sv → σ1 10 = σ 10 → σ1 12 f = 0 → GG p l e (rmD 2) s m args below meth c (MQ below (va_Qv (fun σ1 => ckInv σ1 mk op pl P O Sv ∧ σ1 10 = σ 10 ∧ σ1 11 f = 1 ∧ σ1 12 f = 0) (ckB D (csW h0 ad cI cZ) A) A) args s 0 0 A) D (csW h0 ad cI cZ) A 2 0 0 14 [some (.ref h0), some (.int (nI f))] [] σ1 := by
    intro σ1 i1 e1 z2
    refine gg_aload_n (pc := 14) C dX0_makeWritable_14 rfl rfl ?_
    refine gg_getA (pc := 15) C S 11 (by decide) (Or.inr rfl) q52 dX0_makeWritable_15 ?_
    refine gg_iload_n (pc := 18) C dX0_makeWritable_18 rfl rfl ?_
    refine gg_iconst (pc := 19) (v := nI 1) C dX0_makeWritable_19 (by decide) ?_
    refine gg_zast (pc := 20) C S 5 rfl rfl (by omega) (by decide) (by decide) dX0_makeWritable_20 ?_
    exact gg_vret (pc := 21) C dX0_makeWritable_21 ⟨inv_dirty i1 hf hn (by rw [e1]; exact hN) z2, by rw [kUp_n (by omega), e1], by rw [kUp_s, up_s]; rfl, by rw [kUp_n (by omega)]; exact z2⟩
  have hI0 := hI
  obtain ⟨s1, s2, s3, s4, ⟨w1, w2, w3, w4, w5, w6, w7, w8, w9, w10, w11⟩, r⟩ := hI
  refine gg_aload_n (pc := 0) C dX0_makeWritable_0 rfl rfl ?_
  refine gg_getA (pc := 1) C S 12 (by decide) (Or.inr rfl) q53 dX0_makeWritable_1 ?_
  refine gg_iload_n (pc := 4) C dX0_makeWritable_4 rfl rfl ?_
  refine gg_zald (pc := 5) C S 5 rfl rfl (by omega) (by decide) dX0_makeWritable_5 ?_
  refine gg_if_eq (pc := 6) C 14 dX0_makeWritable_6 (by decide) (fun h1 => ?_) (fun h1 => ?_)
  · exact tl σ hI0 rfl h1
  · have h4 : σ 12 f = 1 := by
      rcases w7 f hf with y | y
      · exact absurd y h1
      · exact y
    refine gg_aload_n (pc := 9) C dX0_makeWritable_9 rfl rfl ?_
    refine gg_iload_n (pc := 10) C dX0_makeWritable_10 rfl rfl ?_
    refine gg_callV (pc := 11) C S (n := 1) [.int (nI f)] (tS_saveFrozen l D h0 ad cI cZ σ hI0 hf h4) (lw_V q123 q125 qs6 q19 q126) (by decide +kernel) ⟨by decide, by decide⟩ rfl rfl rfl rfl (Nat.le_of_ble_eq_true rfl) dX0_makeWritable_11 ⟨by decide, by decide⟩ (fun σ1 e1 => ?_)
    obtain ⟨i1, e10, e11, e12⟩ := e1
    exact tl _ i1 e10 (by rw [e12, up_s])
set_option maxRecDepth 100000 in
set_option maxHeartbeats 4000000 in
/-- load(f, node): the newest copy of the node comes into the frame -/
theorem tS_load (l : Launch) (D : va_G) (h0 : Nat) (ad : Nat → Nat) (cI cZ : ClassId) (σ : ckS) {mk op : Option Nat} {pl : Nat} {P O Sv : Nat → ckR} (hI : ckInv σ mk op pl P O Sv) {f n : Nat} (hf : f < 5) (hn : n < 16) (hE : σ 10 f = -1) (hno : ∀ g, g < 5 → σ 10 g ≠ nI n) : ckV l yX0_load cX0_load 6 (rmD 1) D (csW h0 ad cI cZ) cI cZ [.ref h0, .int (nI f), .int (nI n)] σ (fun σ1 => ckInv σ1 mk op pl P O Sv ∧ σ1 10 f = nI n) := by
  refine gg_inV (by decide) (by simp [Value.category]) (Nat.le_of_ble_eq_true rfl) ?_
  intro p e s m args below meth c A C hK
  have S := csS (h0 := h0) (ad := ad) hK
  refine gg_lv (lv1 := [some (.ref h0), some (.int (nI f)), some (.int (nI n)), none, none, none]) rfl ?_
  have hI0 := hI
  obtain ⟨s1, s2, s3, s4, ⟨w1, w2, w3, w4, w5, w6, w7, w8, w9, w10, w11⟩, r⟩ := hI
  refine gg_aload_n (pc := 0) C dX0_load_0 rfl rfl ?_
  refine gg_getA (pc := 1) C S 10 (by decide) (Or.inl rfl) q51 dX0_load_1 ?_
  refine gg_iload_n (pc := 4) C dX0_load_4 rfl rfl ?_
  refine gg_iload_n (pc := 5) C dX0_load_5 rfl rfl ?_
  refine gg_iast (pc := 6) C S 5 rfl rfl (by omega) (by decide) dX0_load_6 ?_
  refine gg_aload_n (pc := 7) C dX0_load_7 rfl rfl ?_
  refine gg_getA (pc := 8) C S 11 (by decide) (Or.inr rfl) q52 dX0_load_8 ?_
  refine gg_iload_n (pc := 11) C dX0_load_11 rfl rfl ?_
  refine gg_iconst (pc := 12) (v := nI 0) C dX0_load_12 (by decide) ?_
  refine gg_zast (pc := 13) C S 5 rfl rfl (by omega) (by decide) (by decide) dX0_load_13 ?_
  refine gg_aload_n (pc := 14) C dX0_load_14 rfl rfl ?_
  refine gg_getA (pc := 15) C S 12 (by decide) (Or.inr rfl) q53 dX0_load_15 ?_
  refine gg_iload_n (pc := 18) C dX0_load_18 rfl rfl ?_
  refine gg_iconst (pc := 19) (v := nI 0) C dX0_load_19 (by decide) ?_
  refine gg_zast (pc := 20) C S 5 rfl rfl (by omega) (by decide) (by decide) dX0_load_20 ?_
  refine gg_sg (σ1 := (ckUp (ckUp (ckUp σ 10 (upd (σ 10) f (nI n))) 11 (upd (σ 11) f 0)) 12 (upd (σ 12) f 0))) rfl ?_
  obtain ⟨σa, ea⟩ : ∃ z, z = (ckUp (ckUp (ckUp σ 10 (upd (σ 10) f (nI n))) 11 (upd (σ 11) f 0)) 12 (upd (σ 12) f 0)) := ⟨_, rfl⟩
  rw [← ea]
  have ka : ∀ k, k < 10 ∨ 13 ≤ k → σa k = σ k := by
    intro k hk
    rw [ea, kUp_n (by omega), kUp_n (by omega), kUp_n (by omega)]
  have k10 : σa 10 = upd (σ 10) f (nI n) := by rw [ea]; rfl
  have k11 : σa 11 = upd (σ 11) f 0 := by rw [ea]; rfl
  have k12 : σa 12 = upd (σ 12) f 0 := by rw [ea]; rfl
  have epn : p_new σa mk op pl n = p_new σ mk op pl n := by
    unfold p_new p_old
    rw [ka 8 (by omega)]
  refine gg_aload_n (pc := 21) C dX0_load_21 rfl rfl ?_
  refine gg_iload_n (pc := 22) C dX0_load_22 rfl rfl ?_
  refine gg_callI (pc := 23) C S (n := 1) [.int (nI n)] (tS_newestLog l D h0 ad cI cZ σa (by rw [ka 9 (by omega)]; exact s1) (by rw [ka 18 (by omega)]; exact s2) (by rw [ka 19 (by omega)]; exact s3) (fun m h => (w2 m h).1) (fun o h => (w3 o h).1) w1 hn) (lw_V q135 q137 qs9 q19 q138) (by decide +kernel) ⟨by decide, by decide⟩ rfl rfl rfl rfl (Nat.le_of_ble_eq_true rfl) dX0_load_23 ⟨by decide, by decide⟩ (fun r1 σ1 e1 => ?_)
  obtain ⟨e1, e2⟩ := e1
  subst e1
  rw [epn] at e2
  refine gg_top e2 ?_
  refine gg_istore_n (pc := 26) C dX0_load_26 rfl (by decide) rfl ?_
  refine gg_iload_n (pc := 27) C dX0_load_27 rfl rfl ?_
  have hpn3 : ∀ k, p_new σ mk op pl n = some k → k < 3 := by
    intro k hk
    have ho : ∀ q, p_old σ mk n = some q → q < 3 := by
      intro q hq
      unfold p_old at hq
      cases hm : mk with
      | none => rw [hm] at hq; simp at hq
      | some m =>
        rw [hm] at hq
        simp only at hq
        split at hq
        · simp at hq
        · have := (w2 m hm).1
          simp at hq
          omega
    unfold p_new at hk
    split at hk
    · cases hop : op with
      | none => rw [hop] at hk; exact ho k hk
      | some o =>
        rw [hop] at hk
        simp only at hk
        split at hk
        · exact ho k hk
        · have := (w3 o hop).1
          simp at hk
          omega
    · simp at hk
      omega
  refine gg_if_ge (pc := 28) C 38 dX0_load_28 (by decide) (fun h1 => ?_) (fun h1 => ?_)
  · cases hpn : p_new σ mk op pl n with
    | none => rw [hpn] at h1; exact absurd h1 (by decide)
    | some k =>
      have hk := hpn3 k hpn
      refine gg_lv (lv1 := [some (.ref h0), some (.int (nI f)), some (.int (nI n)), some (.int (nI k)), none, none]) rfl ?_
      refine gg_bipush (pc := 38) (v := nI 16) C dX0_load_38 (by decide) ?_
      refine gg_iload_n (pc := 40) C dX0_load_40 rfl rfl ?_
      refine gg_imulN (pc := 41) C dX0_load_41 ?_
      refine gg_iload_n (pc := 42) C dX0_load_42 rfl rfl ?_
      refine gg_iaddN (pc := 43) C dX0_load_43 ?_
      refine gg_istore (pc := 44) C dX0_load_44 (by decide) rfl ?_
      refine gg_aload_n (pc := 46) C dX0_load_46 rfl rfl ?_
      refine gg_getA (pc := 47) C S 16 (by decide) (Or.inl rfl) q57 dX0_load_47 ?_
      refine gg_iload_n (pc := 50) C dX0_load_50 rfl rfl ?_
      refine gg_aload_n (pc := 51) C dX0_load_51 rfl rfl ?_
      refine gg_getA (pc := 52) C S 7 (by decide) (Or.inl rfl) q48 dX0_load_52 ?_
      refine gg_iload (pc := 55) C dX0_load_55 rfl ?_
      refine gg_iald (pc := 57) C S 48 rfl rfl (by omega) (by decide) dX0_load_57 ?_
      refine gg_iast (pc := 58) C S 5 rfl rfl (by omega) (by decide) dX0_load_58 ?_
      refine gg_iconst (pc := 59) (v := nI 0) C dX0_load_59 (by decide) ?_
      refine gg_istore (pc := 60) C dX0_load_60 (by decide) rfl ?_
      refine gg_loop (F := GG p l e (rmD 1) s m args below meth c _ D _ A 6 0 0) 62 [] (fun i => [some (.ref h0), some (.int (nI f)), some (.int (nI n)), some (.int (nI k)), some (.int (nI (16 * k + n))), some (.int (nI i))]) (fun i => mvN 13 4 14 5 15 6 f (16 * k + n) i (mv1 16 7 f (16 * k + n) σ1)) 4 (fun i hi ih => ?_)
      refine gg_iload (pc := 62) C dX0_load_62 rfl ?_
      refine gg_iconst (pc := 64) (v := nI 4) C dX0_load_64 (by decide) ?_
      refine gg_icmp_geN (pc := 65) C 143 dX0_load_65 (by decide) (by omega) (by omega) (fun h => ?_) (fun h => ?_)
      · obtain rfl : i = 4 := by omega
        refine gg_vret (pc := 143) C dX0_load_143 (inv_load (σ1 := p_ldL f (16 * k + n) σ1) hI0 hf hn hE hno (fun j hj => ?_) ?_ ?_ ?_ ?_)
        · rw [p_ldL_k _ _ _ _ (by omega)]; exact ka j (by omega)
        · rw [p_ldL_k _ _ _ _ (by omega)]; exact k10
        · rw [p_ldL_k _ _ _ _ (by omega)]; exact k11
        · rw [p_ldL_k _ _ _ _ (by omega)]; exact k12
        · rw [p_ldL_fr, hpn, ck_frk (σ := σ) (fun j h1 h2 => ka j (by omega)), ck_lgk (σ := σ) (fun j h1 h2 => ka j (by omega))]
      · refine gg_aload_n (pc := 68) C dX0_load_68 rfl rfl ?_
        refine gg_getA (pc := 69) C S 13 (by decide) (Or.inl rfl) q54 dX0_load_69 ?_
        refine gg_iconst (pc := 72) (v := nI 4) C dX0_load_72 (by decide) ?_
        refine gg_iload_n (pc := 73) C dX0_load_73 rfl rfl ?_
        refine gg_imulN (pc := 74) C dX0_load_74 ?_
        refine gg_iload (pc := 75) C dX0_load_75 rfl ?_
        refine gg_iaddN (pc := 77) C dX0_load_77 ?_
        refine gg_aload_n (pc := 78) C dX0_load_78 rfl rfl ?_
        refine gg_getA (pc := 79) C S 4 (by decide) (Or.inl rfl) q45 dX0_load_79 ?_
        refine gg_iconst (pc := 82) (v := nI 4) C dX0_load_82 (by decide) ?_
        refine gg_iload (pc := 83) C dX0_load_83 rfl ?_
        refine gg_imulN (pc := 85) C dX0_load_85 ?_
        refine gg_iload (pc := 86) C dX0_load_86 rfl ?_
        refine gg_iaddN (pc := 88) C dX0_load_88 ?_
        refine gg_iald (pc := 89) C S 192 rfl rfl (by omega) (by decide) dX0_load_89 ?_
        refine gg_iast (pc := 90) C S 20 rfl rfl (by omega) (by decide) dX0_load_90 ?_
        refine gg_aload_n (pc := 91) C dX0_load_91 rfl rfl ?_
        refine gg_getA (pc := 92) C S 14 (by decide) (Or.inl rfl) q55 dX0_load_92 ?_
        refine gg_iconst (pc := 95) (v := nI 4) C dX0_load_95 (by decide) ?_
        refine gg_iload_n (pc := 96) C dX0_load_96 rfl rfl ?_
        refine gg_imulN (pc := 97) C dX0_load_97 ?_
        refine gg_iload (pc := 98) C dX0_load_98 rfl ?_
        refine gg_iaddN (pc := 100) C dX0_load_100 ?_
        refine gg_aload_n (pc := 101) C dX0_load_101 rfl rfl ?_
        refine gg_getA (pc := 102) C S 5 (by decide) (Or.inl rfl) q46 dX0_load_102 ?_
        refine gg_iconst (pc := 105) (v := nI 4) C dX0_load_105 (by decide) ?_
        refine gg_iload (pc := 106) C dX0_load_106 rfl ?_
        refine gg_imulN (pc := 108) C dX0_load_108 ?_
        refine gg_iload (pc := 109) C dX0_load_109 rfl ?_
        refine gg_iaddN (pc := 111) C dX0_load_111 ?_
        refine gg_iald (pc := 112) C S 192 rfl rfl (by omega) (by decide) dX0_load_112 ?_
        refine gg_iast (pc := 113) C S 20 rfl rfl (by omega) (by decide) dX0_load_113 ?_
        refine gg_aload_n (pc := 114) C dX0_load_114 rfl rfl ?_
        refine gg_getA (pc := 115) C S 15 (by decide) (Or.inl rfl) q56 dX0_load_115 ?_
        refine gg_iconst (pc := 118) (v := nI 4) C dX0_load_118 (by decide) ?_
        refine gg_iload_n (pc := 119) C dX0_load_119 rfl rfl ?_
        refine gg_imulN (pc := 120) C dX0_load_120 ?_
        refine gg_iload (pc := 121) C dX0_load_121 rfl ?_
        refine gg_iaddN (pc := 123) C dX0_load_123 ?_
        refine gg_aload_n (pc := 124) C dX0_load_124 rfl rfl ?_
        refine gg_getA (pc := 125) C S 6 (by decide) (Or.inl rfl) q47 dX0_load_125 ?_
        refine gg_iconst (pc := 128) (v := nI 4) C dX0_load_128 (by decide) ?_
        refine gg_iload (pc := 129) C dX0_load_129 rfl ?_
        refine gg_imulN (pc := 131) C dX0_load_131 ?_
        refine gg_iload (pc := 132) C dX0_load_132 rfl ?_
        refine gg_iaddN (pc := 134) C dX0_load_134 ?_
        refine gg_iald (pc := 135) C S 192 rfl rfl (by omega) (by decide) dX0_load_135 ?_
        refine gg_iast (pc := 136) C S 20 rfl rfl (by omega) (by decide) dX0_load_136 ?_
        refine gg_iincN (pc := 137) C dX0_load_137 rfl (by decide) rfl ?_
        refine gg_goto (pc := 140) C 62 dX0_load_140 (by decide) ?_
        exact ih h
  · cases hpn : p_new σ mk op pl n with
    | some k =>
      have hk := hpn3 k hpn
      rw [hpn] at h1; exact absurd (nI_pos' (by omega)) h1
    | none =>
      refine gg_aload_n (pc := 31) C dX0_load_31 rfl rfl ?_
      refine gg_iload_n (pc := 32) C dX0_load_32 rfl rfl ?_
      refine gg_iload_n (pc := 33) C dX0_load_33 rfl rfl ?_
      refine gg_callV (pc := 34) C S (n := 2) [.int (nI f), .int (nI n)] (tS_loadHome l D h0 ad cI cZ σ1 hf hn) (lw_V q139 q141 qs10 q19 q142) (by decide +kernel) ⟨by decide, by decide⟩ rfl rfl rfl rfl (Nat.le_of_ble_eq_true rfl) dX0_load_34 ⟨by decide, by decide⟩ (fun σ2 e2 => ?_)
      subst e2
      refine gg_vret (pc := 37) C dX0_load_37 (inv_load hI0 hf hn hE hno (fun j hj => ?_) ?_ ?_ ?_ ?_)
      · rw [p_ldH_k _ _ _ _ (by omega)]; exact ka j (by omega)
      · rw [p_ldH_k _ _ _ _ (by omega)]; exact k10
      · rw [p_ldH_k _ _ _ _ (by omega)]; exact k11
      · rw [p_ldH_k _ _ _ _ (by omega)]; exact k12
      · rw [p_ldH_fr, hpn, ck_frk (σ := σ) (fun j h1 h2 => ka j (by omega)), ck_hmk (σ := σ) (fun j h1 => ka j (by omega))]
set_option maxRecDepth 100000 in
set_option maxHeartbeats 4000000 in
/-- frameFor(node): the frame that holds the node -/
theorem tS_frameFor (l : Launch) (D : va_G) (h0 : Nat) (ad : Nat → Nat) (cI cZ : ClassId) (σ : ckS) {mk op : Option Nat} {pl : Nat} {P O Sv : Nat → ckR} (hI : ckInv σ mk op pl P O Sv) {n : Nat} (hn : n < 16) : ckI l yX0_frameFor cX0_frameFor 3 (some .int) (rmD 3) D (csW h0 ad cI cZ) cI cZ [.ref h0, .int (nI n)] σ (fun r σ1 => ∃ f, f < 5 ∧ r = nI f ∧ σ1 10 f = nI n ∧ ckInv σ1 mk op pl P O Sv) := by
  refine gg_inI (by decide) (by simp [Value.category]) (Nat.le_of_ble_eq_true rfl) ?_
  intro p e s m args below meth c A C hK
  have S := csS (h0 := h0) (ad := ad) hK
  refine gg_lv (lv1 := [some (.ref h0), some (.int (nI n)), none]) rfl ?_
  have hI0 := hI
  obtain ⟨s1, s2, s3, ⟨h, hh, s4⟩, ⟨w1, w2, w3, w4, w5, w6, w7, w8, w9, w10, w11⟩, r⟩ := hI
  have tl : ∀ h1, h1 < 5 → (∀ g, g < 5 → σ 10 g ≠ nI n) → GG p l e (rmD 3) s m args below meth c (MQ below (va_Qi (fun r σ1 => ∃ f, f < 5 ∧ r = nI f ∧ σ1 10 f = nI n ∧ ckInv σ1 mk op pl P O Sv) (ckB D (csW h0 ad cI cZ) A) A) args s 0 0 A) D (csW h0 ad cI cZ) A 3 0 0 49 [some (.ref h0), some (.int (nI n)), some (.int (nI h))] [.int (nI h1), .ref h0] σ := by
    intro h1 hh1 hno
    refine gg_putI (pc := 49) C S 17 (by decide) rfl q58 rfl rfl rfl dX0_frameFor_49 ?_
    refine gg_aload_n (pc := 52) C dX0_frameFor_52 rfl rfl ?_
    refine gg_iload_n (pc := 53) C dX0_frameFor_53 rfl rfl ?_
    refine gg_callV (pc := 54) C S (n := 1) [.int (nI h)] (tS_evict l D h0 ad cI cZ (ckUp σ 17 (fun _ => nI h1)) (mk := mk) (op := op) (pl := pl) (P := P) (O := O) (Sv := Sv) ⟨s1, s2, s3, ⟨h1, hh1, rfl⟩, hI0.2.2.2.2⟩ hh) (lw_V q119 q121 qs5 q19 q122) (by decide +kernel) ⟨by decide, by decide⟩ rfl rfl rfl rfl (Nat.le_of_ble_eq_true rfl) dX0_frameFor_54 ⟨by decide, by decide⟩ (fun σ1 e1 => ?_)
    obtain ⟨i1, e10⟩ := e1
    have e10 : σ1 10 = upd (σ 10) h (-1) := e10
    refine gg_aload_n (pc := 57) C dX0_frameFor_57 rfl rfl ?_
    refine gg_iload_n (pc := 58) C dX0_frameFor_58 rfl rfl ?_
    refine gg_iload_n (pc := 59) C dX0_frameFor_59 rfl rfl ?_
    refine gg_callV (pc := 60) C S (n := 2) [.int (nI h), .int (nI n)] (tS_load l D h0 ad cI cZ σ1 i1 hh hn (by rw [e10, up_s]) (fun g hg => by
      rw [e10]
      by_cases q : g = h
      · rw [q, up_s]; exact (n_m1 hn).symm
      · rw [up_n q]; exact hno g hg)) (lw_V q131 q133 qs8 q19 q134) (by decide +kernel) ⟨by decide, by decide⟩ rfl rfl rfl rfl (Nat.le_of_ble_eq_true rfl) dX0_frameFor_60 ⟨by decide, by decide⟩ (fun σ2 e2 => ?_)
    refine gg_iload_n (pc := 63) C dX0_frameFor_63 rfl rfl ?_
    exact gg_iret (pc := 64) C dX0_frameFor_64 ⟨h, hh, rfl, e2.2, e2.1⟩
  refine gg_iconst (pc := 0) (v := nI 0) C dX0_frameFor_0 (by decide) ?_
  refine gg_istore_n (pc := 1) C dX0_frameFor_1 rfl (by decide) rfl ?_
  refine gg_loopX (F := GG p l e (rmD 3) s m args below meth c _ D _ A 3 0 0) 2 [] (fun i _ => [some (.ref h0), some (.int (nI n)), some (.int (nI i))]) (fun _ : Unit => σ) (fun i _ => ∀ g, g < i → σ 10 g ≠ nI n) 5 (fun i _ hi hL ih => ?_) () 0 (by omega) (fun q hq => absurd hq (by omega))
  refine gg_iload_n (pc := 2) C dX0_frameFor_2 rfl rfl ?_
  refine gg_iconst (pc := 3) (v := nI 5) C dX0_frameFor_3 (by decide) ?_
  refine gg_icmp_geN (pc := 4) C 25 dX0_frameFor_4 (by decide) (by omega) (by omega) (fun hq => ?_) (fun hq => ?_)
  · have hno : ∀ g, g < 5 → σ 10 g ≠ nI n := fun g hg => hL g (by omega)
    refine gg_aload_n (pc := 25) C dX0_frameFor_25 rfl rfl ?_
    refine gg_getI (pc := 26) C S 17 (by decide) rfl q58 dX0_frameFor_26 ?_
    refine gg_top s4 ?_
    refine gg_istore_n (pc := 29) C dX0_frameFor_29 rfl (by decide) rfl ?_
    refine gg_aload_n (pc := 30) C dX0_frameFor_30 rfl rfl ?_
    refine gg_aload_n (pc := 31) C dX0_frameFor_31 rfl rfl ?_
    refine gg_getI (pc := 32) C S 17 (by decide) rfl q58 dX0_frameFor_32 ?_
    refine gg_top s4 ?_
    refine gg_iconst (pc := 35) (v := nI 4) C dX0_frameFor_35 (by decide) ?_
    refine gg_icmp_neN (pc := 36) C 43 dX0_frameFor_36 (by decide) (by omega) (by omega) (fun h1 => ?_) (fun h1 => ?_)
    · refine gg_aload_n (pc := 43) C dX0_frameFor_43 rfl rfl ?_
      refine gg_getI (pc := 44) C S 17 (by decide) rfl q58 dX0_frameFor_44 ?_
      refine gg_top s4 ?_
      refine gg_iconst (pc := 47) (v := nI 1) C dX0_frameFor_47 (by decide) ?_
      refine gg_iaddN (pc := 48) C dX0_frameFor_48 ?_
      exact tl (h + 1) (by omega) hno
    · refine gg_iconst (pc := 39) (v := nI 0) C dX0_frameFor_39 (by decide) ?_
      refine gg_goto (pc := 40) C 49 dX0_frameFor_40 (by decide) ?_
      exact tl 0 (by omega) hno
  · refine gg_aload_n (pc := 7) C dX0_frameFor_7 rfl rfl ?_
    refine gg_getA (pc := 8) C S 10 (by decide) (Or.inl rfl) q51 dX0_frameFor_8 ?_
    refine gg_iload_n (pc := 11) C dX0_frameFor_11 rfl rfl ?_
    refine gg_iald (pc := 12) C S 5 rfl rfl (by omega) (by decide) dX0_frameFor_12 ?_
    refine gg_iload_n (pc := 13) C dX0_frameFor_13 rfl rfl ?_
    refine gg_icmp_ne (pc := 14) C 19 dX0_frameFor_14 (by decide) (fun h1 => ?_) (fun h1 => ?_)
    · refine gg_iincN (pc := 19) C dX0_frameFor_19 rfl (by decide) rfl ?_
      refine gg_goto (pc := 22) C 2 dX0_frameFor_22 (by decide) ?_
      exact ih () hq (fun g hg => by
        rcases Nat.lt_or_ge g i with z | z
        · exact hL g z
        · rw [show g = i by omega]; exact h1)
    · refine gg_iload_n (pc := 17) C dX0_frameFor_17 rfl rfl ?_
      exact gg_iret (pc := 18) C dX0_frameFor_18 ⟨i, hq, rfl, h1, hI0⟩
end
section
/-! WALKS of the store's slots: versionOf, numberIn, liveKey, put, write, writeKey, copy, key, number, follow -/
theorem fr_v (σ : ckS) (f : Nat) : ckFr σ f 0 = σ 16 f := rfl
theorem fr_n (σ : ckS) (f : Nat) {s : Nat} (h : s < 4) : ckFr σ f (1 + s) = σ 13 (4 * f + s) := by
  unfold ckFr rc
  rw [if_neg (by omega), if_pos (by omega), show 1 + s - 1 = s by omega]
theorem fr_t (σ : ckS) (f : Nat) {s : Nat} (h : s < 4) : ckFr σ f (5 + s) = σ 14 (4 * f + s) := by
  unfold ckFr rc
  rw [if_neg (by omega), if_neg (by omega), if_pos (by omega), show 5 + s - 5 = s by omega]
theorem fr_s (σ : ckS) (f : Nat) {s : Nat} (h : s < 4) : ckFr σ f (9 + s) = σ 15 (4 * f + s) := by
  unfold ckFr rc
  rw [if_neg (by omega), if_neg (by omega), if_neg (by omega), if_pos (by omega), show 9 + s - 9 = s by omega]
/-- a record with one slot written -/
def sl (r : ckR) (s : Nat) (v t w : Int32) : ckR := fun j => if j = 1 + s then v else if j = 5 + s then t else if j = 9 + s then w else r j
theorem fr_put (σ : ckS) (f : Nat) {s : Nat} (h : s < 4) (v t w : Int32) : ckFr (ckUp (ckUp (ckUp σ 13 (upd (σ 13) (4 * f + s) v)) 14 (upd (σ 14) (4 * f + s) t)) 15 (upd (σ 15) (4 * f + s) w)) = updR (ckFr σ) f (sl (ckFr σ f) s v t w) := by
  funext z
  show rc (σ 16) (upd (σ 13) (4 * f + s) v) (upd (σ 14) (4 * f + s) t) (upd (σ 15) (4 * f + s) w) z = _
  by_cases hz : z = f
  · subst hz
    rw [ur_s]
    funext j
    unfold rc sl ckFr rc
    by_cases j0 : j = 0
    · rw [if_pos j0, if_neg (by omega), if_neg (by omega), if_neg (by omega), if_pos j0]
    · rw [if_neg j0, if_neg j0]
      by_cases j1 : j < 5
      · rw [if_pos j1, if_pos j1]
        by_cases q : j = 1 + s
        · rw [if_pos q, q, show 4 * z + (1 + s - 1) = 4 * z + s by omega, up_s]
        · rw [if_neg q, if_neg (by omega), if_neg (by omega), up_n (by omega)]
      · rw [if_neg j1, if_neg j1, if_neg (show ¬ j = 1 + s by omega)]
        by_cases j2 : j < 9
        · rw [if_pos j2, if_pos j2]
          by_cases q : j = 5 + s
          · rw [if_pos q, q, show 4 * z + (5 + s - 5) = 4 * z + s by omega, up_s]
          · rw [if_neg q, if_neg (by omega), up_n (by omega)]
        · rw [if_neg j2, if_neg j2, if_neg (show ¬ j = 5 + s by omega)]
          by_cases j3 : j < 13
          · rw [if_pos j3, if_pos j3]
            by_cases q : j = 9 + s
            · rw [if_pos q, q, show 4 * z + (9 + s - 9) = 4 * z + s by omega, up_s]
            · rw [if_neg q, up_n (by omega)]
          · rw [if_neg j3, if_neg j3, if_neg (by omega)]
  · rw [ur_n hz]
    funext j
    unfold ckFr rc
    by_cases j0 : j = 0
    · rw [if_pos j0, if_pos j0]
    · rw [if_neg j0, if_neg j0]
      by_cases j1 : j < 5
      · rw [if_pos j1, if_pos j1, up_n (by omega)]
      · rw [if_neg j1, if_neg j1]
        by_cases j2 : j < 9
        · rw [if_pos j2, if_pos j2, up_n (by omega)]
        · rw [if_neg j2, if_neg j2]
          by_cases j3 : j < 13
          · rw [if_pos j3, if_pos j3, up_n (by omega)]
          · rw [if_neg j3, if_neg j3]
section IV3
variable {σ : ckS} {mk op : Option Nat} {pl : Nat} {P O S : Nat → ckR}
theorem inv_fr (h : ckInv σ mk op pl P O S) {f n : Nat} (hf : f < 5) (hn : n < 16) (hN : σ 10 f = nI n) : ckFr σ f = P n := h.2.2.2.2.2.2.2.2.1 f n hf hn hN
theorem inv_put (h : ckInv σ mk op pl P O S) {f n s : Nat} (hf : f < 5) (hn : n < 16) (hs : s < 4) (hN : σ 10 f = nI n) (hD : σ 11 f = 1) (hF : σ 12 f = 0) (v t w : Int32) : ckInv (ckUp (ckUp (ckUp σ 13 (upd (σ 13) (4 * f + s) v)) 14 (upd (σ 14) (4 * f + s) t)) 15 (upd (σ 15) (4 * f + s) w)) mk op pl (updR P n (sl (P n) s v t w)) O S := by
  have e := inv_fr h hf hn hN
  obtain ⟨s1, s2, s3, s4, w1, r⟩ := h
  have r1 := iv_put w1 r hf hn hN hF hD (sl (P n) s v t w)
  refine inv_mk w1 r1 rfl rfl rfl ?_ rfl rfl rfl s1 s2 s3 s4
  rw [fr_put σ f hs, e]
end IV3
/-- the node to which a slot holds a live key -/
def lkO (P : Nat → ckR) (n s : Nat) : Option Nat := if P n (5 + s) < 0 then none else if P (P n (5 + s)).toNatClampNeg 0 = P n (9 + s) then some (P n (5 + s)).toNatClampNeg else none
/-- every target is a node, or -1 -/
def Tv (P : Nat → ckR) : Prop := ∀ n s, n < 16 → s < 4 → P n (5 + s) = -1 ∨ ∃ t, t < 16 ∧ P n (5 + s) = nI t
theorem lkO_lt {P : Nat → ckR} (h : Tv P) {n s t : Nat} (hn : n < 16) (hs : s < 4) (hl : lkO P n s = some t) : t < 16 := by
  unfold lkO at hl
  rcases h n s hn hs with z | ⟨k, hk, z⟩
  · rw [z, if_pos (by decide)] at hl
    simp at hl
  · rw [z, if_neg (nI_pos (by omega)), nI_clamp (by omega)] at hl
    split at hl
    · simp at hl; omega
    · simp at hl
set_option maxRecDepth 100000 in
set_option maxHeartbeats 4000000 in
/-- versionOf(node) -/
theorem tS_versionOf (l : Launch) (D : va_G) (h0 : Nat) (ad : Nat → Nat) (cI cZ : ClassId) (σ : ckS) {mk op : Option Nat} {pl : Nat} {P O Sv : Nat → ckR} (hI : ckInv σ mk op pl P O Sv) {n : Nat} (hn : n < 16) : ckI l yX0_versionOf cX0_versionOf 3 (some .int) (rmD 4) D (csW h0 ad cI cZ) cI cZ [.ref h0, .int (nI n)] σ (fun r σ1 => r = P n 0 ∧ ckInv σ1 mk op pl P O Sv) := by
  refine gg_inI (by decide) (by simp [Value.category]) (Nat.le_of_ble_eq_true rfl) ?_
  intro p e s m args below meth c A C hK
  have S := csS (h0 := h0) (ad := ad) hK
  refine gg_lv (lv1 := [some (.ref h0), some (.int (nI n)), none]) rfl ?_
  refine gg_aload_n (pc := 0) C dX0_versionOf_0 rfl rfl ?_
  refine gg_iload_n (pc := 1) C dX0_versionOf_1 rfl rfl ?_
  refine gg_callI (pc := 2) C S (n := 1) [.int (nI n)] (tS_frameFor l D h0 ad cI cZ σ hI hn) (lw_V q115 q117 qs4 q19 q118) (by decide +kernel) ⟨by decide, by decide⟩ rfl rfl rfl rfl (Nat.le_of_ble_eq_true rfl) dX0_versionOf_2 ⟨by decide, by decide⟩ (fun r σ1 h => ?_)
  obtain ⟨f, hf, rfl, hN, i1⟩ := h
  refine gg_istore_n (pc := 5) C dX0_versionOf_5 rfl (by decide) rfl ?_
  refine gg_aload_n (pc := 6) C dX0_versionOf_6 rfl rfl ?_
  refine gg_getA (pc := 7) C S 16 (by decide) (Or.inl rfl) q57 dX0_versionOf_7 ?_
  refine gg_iload_n (pc := 10) C dX0_versionOf_10 rfl rfl ?_
  refine gg_iald (pc := 11) C S 5 rfl rfl (by omega) (by decide) dX0_versionOf_11 ?_
  exact gg_iret (pc := 12) C dX0_versionOf_12 ⟨by rw [← inv_fr i1 hf hn hN]; rfl, i1⟩
set_option maxRecDepth 100000 in
set_option maxHeartbeats 4000000 in
/-- numberIn(node, slot) -/
theorem tS_numberIn (l : Launch) (D : va_G) (h0 : Nat) (ad : Nat → Nat) (cI cZ : ClassId) (σ : ckS) {mk op : Option Nat} {pl : Nat} {P O Sv : Nat → ckR} (hI : ckInv σ mk op pl P O Sv) {n s1 : Nat} (hn : n < 16) (hs : s1 < 4) : ckI l yX0_numberIn cX0_numberIn 4 (some .int) (rmD 4) D (csW h0 ad cI cZ) cI cZ [.ref h0, .int (nI n), .int (nI s1)] σ (fun r σ1 => r = P n (1 + s1) ∧ ckInv σ1 mk op pl P O Sv) := by
  refine gg_inI (by decide) (by simp [Value.category]) (Nat.le_of_ble_eq_true rfl) ?_
  intro p e s m args below meth c A C hK
  have S := csS (h0 := h0) (ad := ad) hK
  refine gg_lv (lv1 := [some (.ref h0), some (.int (nI n)), some (.int (nI s1)), none]) rfl ?_
  refine gg_aload_n (pc := 0) C dX0_numberIn_0 rfl rfl ?_
  refine gg_iload_n (pc := 1) C dX0_numberIn_1 rfl rfl ?_
  refine gg_callI (pc := 2) C S (n := 1) [.int (nI n)] (tS_frameFor l D h0 ad cI cZ σ hI hn) (lw_V q115 q117 qs4 q19 q118) (by decide +kernel) ⟨by decide, by decide⟩ rfl rfl rfl rfl (Nat.le_of_ble_eq_true rfl) dX0_numberIn_2 ⟨by decide, by decide⟩ (fun r σ1 h => ?_)
  obtain ⟨f, hf, rfl, hN, i1⟩ := h
  refine gg_istore_n (pc := 5) C dX0_numberIn_5 rfl (by decide) rfl ?_
  refine gg_aload_n (pc := 6) C dX0_numberIn_6 rfl rfl ?_
  refine gg_getA (pc := 7) C S 13 (by decide) (Or.inl rfl) q54 dX0_numberIn_7 ?_
  refine gg_iconst (pc := 10) (v := nI 4) C dX0_numberIn_10 (by decide) ?_
  refine gg_iload_n (pc := 11) C dX0_numberIn_11 rfl rfl ?_
  refine gg_imulN (pc := 12) C dX0_numberIn_12 ?_
  refine gg_iload_n (pc := 13) C dX0_numberIn_13 rfl rfl ?_
  refine gg_iaddN (pc := 14) C dX0_numberIn_14 ?_
  refine gg_iald (pc := 15) C S 20 rfl rfl (by omega) (by decide) dX0_numberIn_15 ?_
  exact gg_iret (pc := 16) C dX0_numberIn_16 ⟨by rw [← inv_fr i1 hf hn hN, fr_n _ _ hs], i1⟩
set_option maxRecDepth 100000 in
set_option maxHeartbeats 4000000 in
/-- liveKey(node, slot) -/
theorem tS_liveKey (l : Launch) (D : va_G) (h0 : Nat) (ad : Nat → Nat) (cI cZ : ClassId) (σ : ckS) {mk op : Option Nat} {pl : Nat} {P O Sv : Nat → ckR} (hI : ckInv σ mk op pl P O Sv) {n s1 : Nat} (hn : n < 16) (hs : s1 < 4) (hT : Tv P) : ckI l yX0_liveKey cX0_liveKey 7 (some .int) (rmD 5) D (csW h0 ad cI cZ) cI cZ [.ref h0, .int (nI n), .int (nI s1)] σ (fun r σ1 => r = oI (lkO P n s1) ∧ ckInv σ1 mk op pl P O Sv) := by
  refine gg_inI (by decide) (by simp [Value.category]) (Nat.le_of_ble_eq_true rfl) ?_
  intro p e s m args below meth c A C hK
  have S := csS (h0 := h0) (ad := ad) hK
  refine gg_lv (lv1 := [some (.ref h0), some (.int (nI n)), some (.int (nI s1)), none, none, none, none]) rfl ?_
  refine gg_aload_n (pc := 0) C dX0_liveKey_0 rfl rfl ?_
  refine gg_iload_n (pc := 1) C dX0_liveKey_1 rfl rfl ?_
  refine gg_callI (pc := 2) C S (n := 1) [.int (nI n)] (tS_frameFor l D h0 ad cI cZ σ hI hn) (lw_V q115 q117 qs4 q19 q118) (by decide +kernel) ⟨by decide, by decide⟩ rfl rfl rfl rfl (Nat.le_of_ble_eq_true rfl) dX0_liveKey_2 ⟨by decide, by decide⟩ (fun r σ1 h => ?_)
  obtain ⟨f, hf, rfl, hN, i1⟩ := h
  have e5 : σ1 14 (4 * f + s1) = P n (5 + s1) := by rw [← inv_fr i1 hf hn hN, fr_t _ _ hs]
  have e9 : σ1 15 (4 * f + s1) = P n (9 + s1) := by rw [← inv_fr i1 hf hn hN, fr_s _ _ hs]
  refine gg_istore_n (pc := 5) C dX0_liveKey_5 rfl (by decide) rfl ?_
  refine gg_aload_n (pc := 6) C dX0_liveKey_6 rfl rfl ?_
  refine gg_getA (pc := 7) C S 14 (by decide) (Or.inl rfl) q55 dX0_liveKey_7 ?_
  refine gg_iconst (pc := 10) (v := nI 4) C dX0_liveKey_10 (by decide) ?_
  refine gg_iload_n (pc := 11) C dX0_liveKey_11 rfl rfl ?_
  refine gg_imulN (pc := 12) C dX0_liveKey_12 ?_
  refine gg_iload_n (pc := 13) C dX0_liveKey_13 rfl rfl ?_
  refine gg_iaddN (pc := 14) C dX0_liveKey_14 ?_
  refine gg_iald (pc := 15) C S 20 rfl rfl (by omega) (by decide) dX0_liveKey_15 ?_
  refine gg_top e5 ?_
  refine gg_istore (pc := 16) C dX0_liveKey_16 (by decide) rfl ?_
  refine gg_aload_n (pc := 18) C dX0_liveKey_18 rfl rfl ?_
  refine gg_getA (pc := 19) C S 15 (by decide) (Or.inl rfl) q56 dX0_liveKey_19 ?_
  refine gg_iconst (pc := 22) (v := nI 4) C dX0_liveKey_22 (by decide) ?_
  refine gg_iload_n (pc := 23) C dX0_liveKey_23 rfl rfl ?_
  refine gg_imulN (pc := 24) C dX0_liveKey_24 ?_
  refine gg_iload_n (pc := 25) C dX0_liveKey_25 rfl rfl ?_
  refine gg_iaddN (pc := 26) C dX0_liveKey_26 ?_
  refine gg_iald (pc := 27) C S 20 rfl rfl (by omega) (by decide) dX0_liveKey_27 ?_
  refine gg_top e9 ?_
  refine gg_istore (pc := 28) C dX0_liveKey_28 (by decide) rfl ?_
  refine gg_iload (pc := 30) C dX0_liveKey_30 rfl ?_
  refine gg_if_ge (pc := 32) C 37 dX0_liveKey_32 (by decide) (fun h1 => ?_) (fun h1 => ?_)
  · rcases hT n s1 hn hs with z | ⟨t, ht, z⟩
    · rw [z] at h1; exact absurd h1 (by decide)
    · rw [z]
      refine gg_aload_n (pc := 37) C dX0_liveKey_37 rfl rfl ?_
      refine gg_iload (pc := 38) C dX0_liveKey_38 rfl ?_
      refine gg_callI (pc := 40) C S (n := 1) [.int (nI t)] (tS_versionOf l D h0 ad cI cZ σ1 i1 ht) (lw_V q151 q153 qs12 q19 q154) (by decide +kernel) ⟨by decide, by decide⟩ rfl rfl rfl rfl (Nat.le_of_ble_eq_true rfl) dX0_liveKey_40 ⟨by decide, by decide⟩ (fun r σ2 h => ?_)
      obtain ⟨rfl, i2⟩ := h
      have eL : lkO P n s1 = if P t 0 = P n (9 + s1) then some t else none := by
        unfold lkO
        rw [z, if_neg (nI_pos (by omega)), nI_clamp (by omega)]
      refine gg_istore (pc := 43) C dX0_liveKey_43 (by decide) rfl ?_
      refine gg_iload (pc := 45) C dX0_liveKey_45 rfl ?_
      refine gg_iload (pc := 47) C dX0_liveKey_47 rfl ?_
      refine gg_icmp_ne (pc := 49) C 57 dX0_liveKey_49 (by decide) (fun h2 => ?_) (fun h2 => ?_)
      · refine gg_iconst (pc := 57) (v := -1) C dX0_liveKey_57 (by decide) ?_
        exact gg_iret (pc := 58) C dX0_liveKey_58 ⟨by rw [eL, if_neg h2]; rfl, i2⟩
      · refine gg_iload (pc := 52) C dX0_liveKey_52 rfl ?_
        refine gg_goto (pc := 54) C 58 dX0_liveKey_54 (by decide) ?_
        exact gg_iret (pc := 58) C dX0_liveKey_58 ⟨by rw [eL, if_pos h2]; rfl, i2⟩
  · refine gg_iconst (pc := 35) (v := -1) C dX0_liveKey_35 (by decide) ?_
    have h2 : P n (5 + s1) < 0 := Int32.not_le.mp h1
    exact gg_iret (pc := 36) C dX0_liveKey_36 ⟨by unfold lkO; rw [if_pos h2]; rfl, i1⟩
set_option maxRecDepth 100000 in
set_option maxHeartbeats 4000000 in
/-- put(node, slot, value, target, stamp) -/
theorem tS_put (l : Launch) (D : va_G) (h0 : Nat) (ad : Nat → Nat) (cI cZ : ClassId) (σ : ckS) {mk op : Option Nat} {pl : Nat} {P O Sv : Nat → ckR} (hI : ckInv σ mk op pl P O Sv) {n s1 : Nat} (hn : n < 16) (hs : s1 < 4) (v t u : Int32) : ckV l yX0_put cX0_put 7 (rmD 4) D (csW h0 ad cI cZ) cI cZ [.ref h0, .int (nI n), .int (nI s1), .int v, .int t, .int u] σ (fun σ1 => ckInv σ1 mk op pl (updR P n (sl (P n) s1 v t u)) O Sv) := by
  refine gg_inV (by decide) (by simp [Value.category]) (Nat.le_of_ble_eq_true rfl) ?_
  intro p e s m args below meth c A C hK
  have S := csS (h0 := h0) (ad := ad) hK
  refine gg_lv (lv1 := [some (.ref h0), some (.int (nI n)), some (.int (nI s1)), some (.int v), some (.int t), some (.int u), none]) rfl ?_
  refine gg_aload_n (pc := 0) C dX0_put_0 rfl rfl ?_
  refine gg_iload_n (pc := 1) C dX0_put_1 rfl rfl ?_
  refine gg_callI (pc := 2) C S (n := 1) [.int (nI n)] (tS_frameFor l D h0 ad cI cZ σ hI hn) (lw_V q115 q117 qs4 q19 q118) (by decide +kernel) ⟨by decide, by decide⟩ rfl rfl rfl rfl (Nat.le_of_ble_eq_true rfl) dX0_put_2 ⟨by decide, by decide⟩ (fun r σ1 h => ?_)
  obtain ⟨f, hf, rfl, hN, i1⟩ := h
  refine gg_istore (pc := 5) C dX0_put_5 (by decide) rfl ?_
  refine gg_aload_n (pc := 7) C dX0_put_7 rfl rfl ?_
  refine gg_iload (pc := 8) C dX0_put_8 rfl ?_
  refine gg_callV (pc := 10) C S (n := 1) [.int (nI f)] (tS_makeWritable l D h0 ad cI cZ σ1 i1 hf hn hN) (lw_V q143 q145 qs11 q19 q146) (by decide +kernel) ⟨by decide, by decide⟩ rfl rfl rfl rfl (Nat.le_of_ble_eq_true rfl) dX0_put_10 ⟨by decide, by decide⟩ (fun σ2 h => ?_)
  obtain ⟨i2, e10, e11, e12⟩ := h
  refine gg_aload_n (pc := 13) C dX0_put_13 rfl rfl ?_
  refine gg_getA (pc := 14) C S 13 (by decide) (Or.inl rfl) q54 dX0_put_14 ?_
  refine gg_iconst (pc := 17) (v := nI 4) C dX0_put_17 (by decide) ?_
  refine gg_iload (pc := 18) C dX0_put_18 rfl ?_
  refine gg_imulN (pc := 20) C dX0_put_20 ?_
  refine gg_iload_n (pc := 21) C dX0_put_21 rfl rfl ?_
  refine gg_iaddN (pc := 22) C dX0_put_22 ?_
  refine gg_iload_n (pc := 23) C dX0_put_23 rfl rfl ?_
  refine gg_iast (pc := 24) C S 20 rfl rfl (by omega) (by decide) dX0_put_24 ?_
  refine gg_aload_n (pc := 25) C dX0_put_25 rfl rfl ?_
  refine gg_getA (pc := 26) C S 14 (by decide) (Or.inl rfl) q55 dX0_put_26 ?_
  refine gg_iconst (pc := 29) (v := nI 4) C dX0_put_29 (by decide) ?_
  refine gg_iload (pc := 30) C dX0_put_30 rfl ?_
  refine gg_imulN (pc := 32) C dX0_put_32 ?_
  refine gg_iload_n (pc := 33) C dX0_put_33 rfl rfl ?_
  refine gg_iaddN (pc := 34) C dX0_put_34 ?_
  refine gg_iload (pc := 35) C dX0_put_35 rfl ?_
  refine gg_iast (pc := 37) C S 20 rfl rfl (by omega) (by decide) dX0_put_37 ?_
  refine gg_aload_n (pc := 38) C dX0_put_38 rfl rfl ?_
  refine gg_getA (pc := 39) C S 15 (by decide) (Or.inl rfl) q56 dX0_put_39 ?_
  refine gg_iconst (pc := 42) (v := nI 4) C dX0_put_42 (by decide) ?_
  refine gg_iload (pc := 43) C dX0_put_43 rfl ?_
  refine gg_imulN (pc := 45) C dX0_put_45 ?_
  refine gg_iload_n (pc := 46) C dX0_put_46 rfl rfl ?_
  refine gg_iaddN (pc := 47) C dX0_put_47 ?_
  refine gg_iload (pc := 48) C dX0_put_48 rfl ?_
  refine gg_iast (pc := 50) C S 20 rfl rfl (by omega) (by decide) dX0_put_50 ?_
  exact gg_vret (pc := 51) C dX0_put_51 (inv_put i2 hf hn hs (by rw [e10]; exact hN) e11 e12 v t u)
set_option maxRecDepth 100000 in
set_option maxHeartbeats 4000000 in
/-- write(node, slot, value) -/
theorem tS_write (l : Launch) (D : va_G) (h0 : Nat) (ad : Nat → Nat) (cI cZ : ClassId) (σ : ckS) {mk op : Option Nat} {pl : Nat} {P O Sv : Nat → ckR} (hI : ckInv σ mk op pl P O Sv) (x y v : Int32) : ckI l yX0_write cX0_write 4 (some .int) (rmD 5) D (csW h0 ad cI cZ) cI cZ [.ref h0, .int x, .int y, .int v] σ (fun r σ1 => (r = -1 ∧ (¬ ∃ n s1, n < 16 ∧ s1 < 4 ∧ x = nI n ∧ y = nI s1) ∧ ckInv σ1 mk op pl P O Sv) ∨ (∃ n s1, n < 16 ∧ s1 < 4 ∧ x = nI n ∧ y = nI s1 ∧ r = 0 ∧ ckInv σ1 mk op pl (updR P n (sl (P n) s1 v (-1) 0)) O Sv)) := by
  refine gg_inI (by decide) (by simp [Value.category]) (Nat.le_of_ble_eq_true rfl) ?_
  intro p e s m args below meth c A C hK
  have S := csS (h0 := h0) (ad := ad) hK
  refine gg_lv (lv1 := [some (.ref h0), some (.int x), some (.int y), some (.int v)]) rfl ?_
  refine gg_iload_n (pc := 0) C dX0_write_0 rfl rfl ?_
  refine gg_iload_n (pc := 1) C dX0_write_1 rfl rfl ?_
  refine gg_callS (pc := 2) C (n := 2) [.int x, .int y] (tS_fits l x y) (lw_S q108 q109 q19 q110) (by decide +kernel) ⟨by decide, by decide⟩ rfl rfl rfl rfl (Nat.le_of_ble_eq_true rfl) dX0_write_2 ⟨by decide, by decide⟩ (fun r h => ?_)
  refine gg_if_ne (pc := 5) C 10 dX0_write_5 (by decide) (fun h1 => ?_) (fun h1 => ?_)
  · rcases h with ⟨rfl, n, s1, hn, hs, rfl, rfl⟩ | ⟨rfl, hno⟩
    · refine gg_aload_n (pc := 10) C dX0_write_10 rfl rfl ?_
      refine gg_iload_n (pc := 11) C dX0_write_11 rfl rfl ?_
      refine gg_iload_n (pc := 12) C dX0_write_12 rfl rfl ?_
      refine gg_iload_n (pc := 13) C dX0_write_13 rfl rfl ?_
      refine gg_iconst (pc := 14) (v := -1) C dX0_write_14 (by decide) ?_
      refine gg_iconst (pc := 15) (v := nI 0) C dX0_write_15 (by decide) ?_
      refine gg_callV (pc := 16) C S (n := 5) [.int (nI n), .int (nI s1), .int v, .int (-1), .int (nI 0)] (tS_put l D h0 ad cI cZ σ hI hn hs v (-1) (nI 0)) (lw_V q111 q113 qs3 q19 q114) (by decide +kernel) ⟨by decide, by decide⟩ rfl rfl rfl rfl (Nat.le_of_ble_eq_true rfl) dX0_write_16 ⟨by decide, by decide⟩ (fun σ1 h => ?_)
      refine gg_iconst (pc := 19) (v := nI 0) C dX0_write_19 (by decide) ?_
      exact gg_iret (pc := 20) C dX0_write_20 (Or.inr ⟨n, s1, hn, hs, rfl, rfl, rfl, h⟩)
    · exact absurd rfl h1
  · rcases h with ⟨rfl, n, s1, hn, hs, rfl, rfl⟩ | ⟨rfl, hno⟩
    · exact absurd h1 (by decide)
    · refine gg_iconst (pc := 8) (v := -1) C dX0_write_8 (by decide) ?_
      exact gg_iret (pc := 9) C dX0_write_9 (Or.inl ⟨rfl, hno, hI⟩)
set_option maxRecDepth 100000 in
set_option maxHeartbeats 4000000 in
/-- writeKey(node, slot, target) -/
theorem tS_writeKey (l : Launch) (D : va_G) (h0 : Nat) (ad : Nat → Nat) (cI cZ : ClassId) (σ : ckS) {mk op : Option Nat} {pl : Nat} {P O Sv : Nat → ckR} (hI : ckInv σ mk op pl P O Sv) (x y z : Int32) : ckI l yX0_writeKey cX0_writeKey 5 (some .int) (rmD 5) D (csW h0 ad cI cZ) cI cZ [.ref h0, .int x, .int y, .int z] σ (fun r σ1 => (r = -1 ∧ (¬ ∃ n s1 t, n < 16 ∧ s1 < 4 ∧ t < 16 ∧ x = nI n ∧ y = nI s1 ∧ z = nI t) ∧ ckInv σ1 mk op pl P O Sv) ∨ (∃ n s1 t, n < 16 ∧ s1 < 4 ∧ t < 16 ∧ x = nI n ∧ y = nI s1 ∧ z = nI t ∧ r = 0 ∧ ckInv σ1 mk op pl (updR P n (sl (P n) s1 0 (nI t) (P t 0))) O Sv)) := by
  refine gg_inI (by decide) (by simp [Value.category]) (Nat.le_of_ble_eq_true rfl) ?_
  intro p e s m args below meth c A C hK
  have S := csS (h0 := h0) (ad := ad) hK
  refine gg_lv (lv1 := [some (.ref h0), some (.int x), some (.int y), some (.int z), none]) rfl ?_
  have no : (¬ ∃ n s1 t, n < 16 ∧ s1 < 4 ∧ t < 16 ∧ x = nI n ∧ y = nI s1 ∧ z = nI t) → GG p l e (rmD 5) s m args below meth c (MQ below (va_Qi (fun r σ1 => (r = -1 ∧ (¬ ∃ n s1 t, n < 16 ∧ s1 < 4 ∧ t < 16 ∧ x = nI n ∧ y = nI s1 ∧ z = nI t) ∧ ckInv σ1 mk op pl P O Sv) ∨ (∃ n s1 t, n < 16 ∧ s1 < 4 ∧ t < 16 ∧ x = nI n ∧ y = nI s1 ∧ z = nI t ∧ r = 0 ∧ ckInv σ1 mk op pl (updR P n (sl (P n) s1 0 (nI t) (P t 0))) O Sv)) (ckB D (csW h0 ad cI cZ) A) A) args s 0 0 A) D (csW h0 ad cI cZ) A 5 0 0 18 [some (.ref h0), some (.int x), some (.int y), some (.int z), none] [] σ := by
    intro hno
    refine gg_iconst (pc := 18) (v := -1) C dX0_writeKey_18 (by decide) ?_
    exact gg_iret (pc := 19) C dX0_writeKey_19 (Or.inl ⟨rfl, hno, hI⟩)
  refine gg_iload_n (pc := 0) C dX0_writeKey_0 rfl rfl ?_
  refine gg_iload_n (pc := 1) C dX0_writeKey_1 rfl rfl ?_
  refine gg_callS (pc := 2) C (n := 2) [.int x, .int y] (tS_fits l x y) (lw_S q108 q109 q19 q110) (by decide +kernel) ⟨by decide, by decide⟩ rfl rfl rfl rfl (Nat.le_of_ble_eq_true rfl) dX0_writeKey_2 ⟨by decide, by decide⟩ (fun r h => ?_)
  refine gg_if_eq (pc := 5) C 18 dX0_writeKey_5 (by decide) (fun h1 => ?_) (fun h1 => ?_)
  · rcases h with ⟨rfl, _⟩ | ⟨rfl, hno⟩
    · exact absurd h1 (by decide)
    · exact no (fun ⟨n, s1, t, hn, hs, ht, e1, e2, e3⟩ => hno ⟨n, s1, hn, hs, e1, e2⟩)
  · rcases h with ⟨rfl, n, s1, hn, hs, rfl, rfl⟩ | ⟨rfl, hno⟩
    · refine gg_iload_n (pc := 8) C dX0_writeKey_8 rfl rfl ?_
      refine gg_if_lt (pc := 9) C 18 dX0_writeKey_9 (by decide) (fun h2 => ?_) (fun h2 => ?_)
      · exact no (fun ⟨n, s1, t, hn, hs, ht, e1, e2, e3⟩ => absurd h2 (by rw [e3]; exact nI_pos (by omega)))
      · refine gg_iload_n (pc := 12) C dX0_writeKey_12 rfl rfl ?_
        refine gg_bipush (pc := 13) (v := nI 15) C dX0_writeKey_13 (by decide) ?_
        refine gg_icmp_le (pc := 15) C 20 dX0_writeKey_15 (by decide) (fun h3 => ?_) (fun h3 => ?_)
        · obtain ⟨t, ht, rfl⟩ := nI_of2 (M := nI 15) (n := 15) (by decide) h2 h3
          refine gg_aload_n (pc := 20) C dX0_writeKey_20 rfl rfl ?_
          refine gg_iload_n (pc := 21) C dX0_writeKey_21 rfl rfl ?_
          refine gg_callI (pc := 22) C S (n := 1) [.int (nI t)] (tS_versionOf l D h0 ad cI cZ σ hI (n := t) (by omega)) (lw_V q151 q153 qs12 q19 q154) (by decide +kernel) ⟨by decide, by decide⟩ rfl rfl rfl rfl (Nat.le_of_ble_eq_true rfl) dX0_writeKey_22 ⟨by decide, by decide⟩ (fun r σ1 h => ?_)
          obtain ⟨rfl, i1⟩ := h
          refine gg_istore (pc := 25) C dX0_writeKey_25 (by decide) rfl ?_
          refine gg_aload_n (pc := 27) C dX0_writeKey_27 rfl rfl ?_
          refine gg_iload_n (pc := 28) C dX0_writeKey_28 rfl rfl ?_
          refine gg_iload_n (pc := 29) C dX0_writeKey_29 rfl rfl ?_
          refine gg_iconst (pc := 30) (v := nI 0) C dX0_writeKey_30 (by decide) ?_
          refine gg_iload_n (pc := 31) C dX0_writeKey_31 rfl rfl ?_
          refine gg_iload (pc := 32) C dX0_writeKey_32 rfl ?_
          refine gg_callV (pc := 34) C S (n := 5) [.int (nI n), .int (nI s1), .int (nI 0), .int (nI t), .int (P t 0)] (tS_put l D h0 ad cI cZ σ1 i1 hn hs (nI 0) (nI t) (P t 0)) (lw_V q111 q113 qs3 q19 q114) (by decide +kernel) ⟨by decide, by decide⟩ rfl rfl rfl rfl (Nat.le_of_ble_eq_true rfl) dX0_writeKey_34 ⟨by decide, by decide⟩ (fun σ2 h => ?_)
          refine gg_iconst (pc := 37) (v := nI 0) C dX0_writeKey_37 (by decide) ?_
          exact gg_iret (pc := 38) C dX0_writeKey_38 (Or.inr ⟨n, s1, t, hn, hs, by omega, rfl, rfl, rfl, rfl, h⟩)
        · exact no (fun ⟨n, s1, t, hn, hs, ht, e1, e2, e3⟩ => absurd (by rw [e3]; exact nI_le (by omega) (by omega)) h3)
    · exact absurd rfl h1
/-- the stamp that a copied slot gets -/
def stO (P : Nat → ckR) : Option Nat → Int32
  | none => 0
  | some t => P t 0
set_option maxRecDepth 100000 in
set_option maxHeartbeats 4000000 in
/-- copy(node, slot, to, toSlot) -/
theorem tS_copy (l : Launch) (D : va_G) (h0 : Nat) (ad : Nat → Nat) (cI cZ : ClassId) (σ : ckS) {mk op : Option Nat} {pl : Nat} {P O Sv : Nat → ckR} (hI : ckInv σ mk op pl P O Sv) (hT : Tv P) (x y x2 y2 : Int32) : ckI l yX0_copy cX0_copy 8 (some .int) (rmD 6) D (csW h0 ad cI cZ) cI cZ [.ref h0, .int x, .int y, .int x2, .int y2] σ (fun r σ1 => (r = -1 ∧ (¬ ∃ n s1 n2 s2, n < 16 ∧ s1 < 4 ∧ n2 < 16 ∧ s2 < 4 ∧ x = nI n ∧ y = nI s1 ∧ x2 = nI n2 ∧ y2 = nI s2) ∧ ckInv σ1 mk op pl P O Sv) ∨ (∃ n s1 n2 s2, n < 16 ∧ s1 < 4 ∧ n2 < 16 ∧ s2 < 4 ∧ x = nI n ∧ y = nI s1 ∧ x2 = nI n2 ∧ y2 = nI s2 ∧ r = 0 ∧ ckInv σ1 mk op pl (updR P n2 (sl (P n2) s2 (P n (1 + s1)) (oI (lkO P n s1)) (stO P (lkO P n s1)))) O Sv)) := by
  refine gg_inI (by decide) (by simp [Value.category]) (Nat.le_of_ble_eq_true rfl) ?_
  intro p e s m args below meth c A C hK
  have S := csS (h0 := h0) (ad := ad) hK
  refine gg_lv (lv1 := [some (.ref h0), some (.int x), some (.int y), some (.int x2), some (.int y2), none, none, none]) rfl ?_
  have no : (¬ ∃ n s1 n2 s2, n < 16 ∧ s1 < 4 ∧ n2 < 16 ∧ s2 < 4 ∧ x = nI n ∧ y = nI s1 ∧ x2 = nI n2 ∧ y2 = nI s2) → GG p l e (rmD 6) s m args below meth c (MQ below (va_Qi (fun r σ1 => (r = -1 ∧ (¬ ∃ n s1 n2 s2, n < 16 ∧ s1 < 4 ∧ n2 < 16 ∧ s2 < 4 ∧ x = nI n ∧ y = nI s1 ∧ x2 = nI n2 ∧ y2 = nI s2) ∧ ckInv σ1 mk op pl P O Sv) ∨ (∃ n s1 n2 s2, n < 16 ∧ s1 < 4 ∧ n2 < 16 ∧ s2 < 4 ∧ x = nI n ∧ y = nI s1 ∧ x2 = nI n2 ∧ y2 = nI s2 ∧ r = 0 ∧ ckInv σ1 mk op pl (updR P n2 (sl (P n2) s2 (P n (1 + s1)) (oI (lkO P n s1)) (stO P (lkO P n s1)))) O Sv)) (ckB D (csW h0 ad cI cZ) A) A) args s 0 0 A) D (csW h0 ad cI cZ) A 8 0 0 17 [some (.ref h0), some (.int x), some (.int y), some (.int x2), some (.int y2), none, none, none] [] σ := by
    intro hno
    refine gg_iconst (pc := 17) (v := -1) C dX0_copy_17 (by decide) ?_
    exact gg_iret (pc := 18) C dX0_copy_18 (Or.inl ⟨rfl, hno, hI⟩)
  refine gg_iload_n (pc := 0) C dX0_copy_0 rfl rfl ?_
  refine gg_iload_n (pc := 1) C dX0_copy_1 rfl rfl ?_
  refine gg_callS (pc := 2) C (n := 2) [.int x, .int y] (tS_fits l x y) (lw_S q108 q109 q19 q110) (by decide +kernel) ⟨by decide, by decide⟩ rfl rfl rfl rfl (Nat.le_of_ble_eq_true rfl) dX0_copy_2 ⟨by decide, by decide⟩ (fun r h => ?_)
  refine gg_if_eq (pc := 5) C 17 dX0_copy_5 (by decide) (fun h1 => ?_) (fun h1 => ?_)
  · rcases h with ⟨rfl, _⟩ | ⟨rfl, hno⟩
    · exact absurd h1 (by decide)
    · exact no (fun ⟨n, s1, n2, s2, hn, hs, _, _, e1, e2, _, _⟩ => hno ⟨n, s1, hn, hs, e1, e2⟩)
  · rcases h with ⟨rfl, n, s1, hn, hs, rfl, rfl⟩ | ⟨rfl, hno⟩
    · refine gg_iload_n (pc := 8) C dX0_copy_8 rfl rfl ?_
      refine gg_iload (pc := 9) C dX0_copy_9 rfl ?_
      refine gg_callS (pc := 11) C (n := 2) [.int x2, .int y2] (tS_fits l x2 y2) (lw_S q108 q109 q19 q110) (by decide +kernel) ⟨by decide, by decide⟩ rfl rfl rfl rfl (Nat.le_of_ble_eq_true rfl) dX0_copy_11 ⟨by decide, by decide⟩ (fun r h => ?_)
      refine gg_if_ne (pc := 14) C 19 dX0_copy_14 (by decide) (fun h2 => ?_) (fun h2 => ?_)
      · rcases h with ⟨rfl, n2, s2, hn2, hs2, rfl, rfl⟩ | ⟨rfl, hno⟩
        · refine gg_aload_n (pc := 19) C dX0_copy_19 rfl rfl ?_
          refine gg_iload_n (pc := 20) C dX0_copy_20 rfl rfl ?_
          refine gg_iload_n (pc := 21) C dX0_copy_21 rfl rfl ?_
          refine gg_callI (pc := 22) C S (n := 2) [.int (nI n), .int (nI s1)] (tS_liveKey l D h0 ad cI cZ σ hI hn hs hT) (lw_V q159 q161 qs13 q19 q162) (by decide +kernel) ⟨by decide, by decide⟩ rfl rfl rfl rfl (Nat.le_of_ble_eq_true rfl) dX0_copy_22 ⟨by decide, by decide⟩ (fun r σ1 h => ?_)
          obtain ⟨rfl, i1⟩ := h
          refine gg_istore (pc := 25) C dX0_copy_25 (by decide) rfl ?_
          refine gg_aload_n (pc := 27) C dX0_copy_27 rfl rfl ?_
          refine gg_iload_n (pc := 28) C dX0_copy_28 rfl rfl ?_
          refine gg_iload_n (pc := 29) C dX0_copy_29 rfl rfl ?_
          refine gg_callI (pc := 30) C S (n := 2) [.int (nI n), .int (nI s1)] (tS_numberIn l D h0 ad cI cZ σ1 i1 hn hs) (lw_V q163 q165 qs14 q19 q166) (by decide +kernel) ⟨by decide, by decide⟩ rfl rfl rfl rfl (Nat.le_of_ble_eq_true rfl) dX0_copy_30 ⟨by decide, by decide⟩ (fun r σ2 h => ?_)
          obtain ⟨rfl, i2⟩ := h
          have tl : ∀ (σ3 : ckS) (u : Int32), u = stO P (lkO P n s1) → ckInv σ3 mk op pl P O Sv → GG p l e (rmD 6) s m args below meth c (MQ below (va_Qi (fun r σ1 => (r = -1 ∧ (¬ ∃ n_ s1_ n2_ s2_, n_ < 16 ∧ s1_ < 4 ∧ n2_ < 16 ∧ s2_ < 4 ∧ nI n = nI n_ ∧ nI s1 = nI s1_ ∧ nI n2 = nI n2_ ∧ nI s2 = nI s2_) ∧ ckInv σ1 mk op pl P O Sv) ∨ (∃ n_ s1_ n2_ s2_, n_ < 16 ∧ s1_ < 4 ∧ n2_ < 16 ∧ s2_ < 4 ∧ nI n = nI n_ ∧ nI s1 = nI s1_ ∧ nI n2 = nI n2_ ∧ nI s2 = nI s2_ ∧ r = 0 ∧ ckInv σ1 mk op pl (updR P n2_ (sl (P n2_) s2_ (P n_ (1 + s1_)) (oI (lkO P n_ s1_)) (stO P (lkO P n_ s1_)))) O Sv)) (ckB D (csW h0 ad cI cZ) A) A) args s 0 0 A) D (csW h0 ad cI cZ) A 8 0 0 50 [some (.ref h0), some (.int (nI n)), some (.int (nI s1)), some (.int (nI n2)), some (.int (nI s2)), some (.int (oI (lkO P n s1))), some (.int (P n (1 + s1))), none] [.int u] σ3 := by
            intro σ3 u eu i3
            refine gg_istore (pc := 50) C dX0_copy_50 (by decide) rfl ?_
            refine gg_aload_n (pc := 52) C dX0_copy_52 rfl rfl ?_
            refine gg_iload_n (pc := 53) C dX0_copy_53 rfl rfl ?_
            refine gg_iload (pc := 54) C dX0_copy_54 rfl ?_
            refine gg_iload (pc := 56) C dX0_copy_56 rfl ?_
            refine gg_iload (pc := 58) C dX0_copy_58 rfl ?_
            refine gg_iload (pc := 60) C dX0_copy_60 rfl ?_
            refine gg_callV (pc := 62) C S (n := 5) [.int (nI n2), .int (nI s2), .int (P n (1 + s1)), .int (oI (lkO P n s1)), .int u] (tS_put l D h0 ad cI cZ σ3 i3 hn2 hs2 (P n (1 + s1)) (oI (lkO P n s1)) u) (lw_V q111 q113 qs3 q19 q114) (by decide +kernel) ⟨by decide, by decide⟩ rfl rfl rfl rfl (Nat.le_of_ble_eq_true rfl) dX0_copy_62 ⟨by decide, by decide⟩ (fun σ4 h => ?_)
            rw [eu] at h
            refine gg_iconst (pc := 65) (v := nI 0) C dX0_copy_65 (by decide) ?_
            exact gg_iret (pc := 66) C dX0_copy_66 (Or.inr ⟨n, s1, n2, s2, hn, hs, hn2, hs2, rfl, rfl, rfl, rfl, rfl, h⟩)
          refine gg_istore (pc := 33) C dX0_copy_33 (by decide) rfl ?_
          refine gg_iload (pc := 35) C dX0_copy_35 rfl ?_
          refine gg_if_ge (pc := 37) C 44 dX0_copy_37 (by decide) (fun h3 => ?_) (fun h3 => ?_)
          · cases hl : lkO P n s1 with
            | none => rw [hl] at h3; exact absurd h3 (by decide)
            | some t =>
              have ht := lkO_lt hT hn hs hl
              rw [hl] at tl
              refine gg_aload_n (pc := 44) C dX0_copy_44 rfl rfl ?_
              refine gg_iload (pc := 45) C dX0_copy_45 rfl ?_
              refine gg_callI (pc := 47) C S (n := 1) [.int (nI t)] (tS_versionOf l D h0 ad cI cZ σ2 i2 ht) (lw_V q151 q153 qs12 q19 q154) (by decide +kernel) ⟨by decide, by decide⟩ rfl rfl rfl rfl (Nat.le_of_ble_eq_true rfl) dX0_copy_47 ⟨by decide, by decide⟩ (fun r σ3 h => ?_)
              exact tl σ3 r h.1 h.2
          · cases hl : lkO P n s1 with
            | some t =>
              have ht := lkO_lt hT hn hs hl
              rw [hl] at h3; exact absurd (nI_pos' (by omega)) h3
            | none =>
              rw [hl] at tl
              refine gg_iconst (pc := 40) (v := nI 0) C dX0_copy_40 (by decide) ?_
              refine gg_goto (pc := 41) C 50 dX0_copy_41 (by decide) ?_
              exact tl σ2 (nI 0) rfl i2
        · exact absurd rfl h2
      · rcases h with ⟨rfl, _⟩ | ⟨rfl, hno⟩
        · exact absurd h2 (by decide)
        · exact no (fun ⟨n, s1, n2, s2, _, _, hn, hs, _, _, e1, e2⟩ => hno ⟨n2, s2, hn, hs, e1, e2⟩)
    · exact absurd rfl h1
/-- the answer of key -/
def kyO : Option Nat → Int32
  | none => -2
  | some t => nI t
set_option maxRecDepth 100000 in
set_option maxHeartbeats 4000000 in
/-- key(node, slot) -/
theorem tS_key (l : Launch) (D : va_G) (h0 : Nat) (ad : Nat → Nat) (cI cZ : ClassId) (σ : ckS) {mk op : Option Nat} {pl : Nat} {P O Sv : Nat → ckR} (hI : ckInv σ mk op pl P O Sv) (hT : Tv P) (x y : Int32) : ckI l yX0_key cX0_key 4 (some .int) (rmD 6) D (csW h0 ad cI cZ) cI cZ [.ref h0, .int x, .int y] σ (fun r σ1 => (r = -1 ∧ (¬ ∃ n s1, n < 16 ∧ s1 < 4 ∧ x = nI n ∧ y = nI s1) ∧ ckInv σ1 mk op pl P O Sv) ∨ (∃ n s1, n < 16 ∧ s1 < 4 ∧ x = nI n ∧ y = nI s1 ∧ r = kyO (lkO P n s1) ∧ ckInv σ1 mk op pl P O Sv)) := by
  refine gg_inI (by decide) (by simp [Value.category]) (Nat.le_of_ble_eq_true rfl) ?_
  intro p e s m args below meth c A C hK
  have S := csS (h0 := h0) (ad := ad) hK
  refine gg_lv (lv1 := [some (.ref h0), some (.int x), some (.int y), none]) rfl ?_
  refine gg_iload_n (pc := 0) C dX0_key_0 rfl rfl ?_
  refine gg_iload_n (pc := 1) C dX0_key_1 rfl rfl ?_
  refine gg_callS (pc := 2) C (n := 2) [.int x, .int y] (tS_fits l x y) (lw_S q108 q109 q19 q110) (by decide +kernel) ⟨by decide, by decide⟩ rfl rfl rfl rfl (Nat.le_of_ble_eq_true rfl) dX0_key_2 ⟨by decide, by decide⟩ (fun r h => ?_)
  refine gg_if_ne (pc := 5) C 10 dX0_key_5 (by decide) (fun h1 => ?_) (fun h1 => ?_)
  · rcases h with ⟨rfl, n, s1, hn, hs, rfl, rfl⟩ | ⟨rfl, hno⟩
    · refine gg_aload_n (pc := 10) C dX0_key_10 rfl rfl ?_
      refine gg_iload_n (pc := 11) C dX0_key_11 rfl rfl ?_
      refine gg_iload_n (pc := 12) C dX0_key_12 rfl rfl ?_
      refine gg_callI (pc := 13) C S (n := 2) [.int (nI n), .int (nI s1)] (tS_liveKey l D h0 ad cI cZ σ hI hn hs hT) (lw_V q159 q161 qs13 q19 q162) (by decide +kernel) ⟨by decide, by decide⟩ rfl rfl rfl rfl (Nat.le_of_ble_eq_true rfl) dX0_key_13 ⟨by decide, by decide⟩ (fun r σ1 h => ?_)
      obtain ⟨rfl, i1⟩ := h
      refine gg_istore_n (pc := 16) C dX0_key_16 rfl (by decide) rfl ?_
      refine gg_iload_n (pc := 17) C dX0_key_17 rfl rfl ?_
      refine gg_if_ge (pc := 18) C 26 dX0_key_18 (by decide) (fun h2 => ?_) (fun h2 => ?_)
      · cases hl : lkO P n s1 with
        | none => rw [hl] at h2; exact absurd h2 (by decide)
        | some t =>
          refine gg_iload_n (pc := 26) C dX0_key_26 rfl rfl ?_
          exact gg_iret (pc := 27) C dX0_key_27 (Or.inr ⟨n, s1, hn, hs, rfl, rfl, by rw [hl]; rfl, i1⟩)
      · cases hl : lkO P n s1 with
        | some t =>
          have ht := lkO_lt hT hn hs hl
          rw [hl] at h2; exact absurd (nI_pos' (by omega)) h2
        | none =>
          refine gg_bipush (pc := 21) (v := -2) C dX0_key_21 (by decide) ?_
          refine gg_goto (pc := 23) C 27 dX0_key_23 (by decide) ?_
          exact gg_iret (pc := 27) C dX0_key_27 (Or.inr ⟨n, s1, hn, hs, rfl, rfl, by rw [hl]; rfl, i1⟩)
    · exact absurd rfl h1
  · rcases h with ⟨rfl, n, s1, hn, hs, rfl, rfl⟩ | ⟨rfl, hno⟩
    · exact absurd h1 (by decide)
    · refine gg_iconst (pc := 8) (v := -1) C dX0_key_8 (by decide) ?_
      exact gg_iret (pc := 9) C dX0_key_9 (Or.inl ⟨rfl, hno, hI⟩)
set_option maxRecDepth 100000 in
set_option maxHeartbeats 4000000 in
/-- number(node, slot) -/
theorem tS_number (l : Launch) (D : va_G) (h0 : Nat) (ad : Nat → Nat) (cI cZ : ClassId) (σ : ckS) {mk op : Option Nat} {pl : Nat} {P O Sv : Nat → ckR} (hI : ckInv σ mk op pl P O Sv) (x y : Int32) : ckI l yX0_number cX0_number 3 (some .int) (rmD 5) D (csW h0 ad cI cZ) cI cZ [.ref h0, .int x, .int y] σ (fun r σ1 => (r = 0 ∧ (¬ ∃ n s1, n < 16 ∧ s1 < 4 ∧ x = nI n ∧ y = nI s1) ∧ ckInv σ1 mk op pl P O Sv) ∨ (∃ n s1, n < 16 ∧ s1 < 4 ∧ x = nI n ∧ y = nI s1 ∧ r = P n (1 + s1) ∧ ckInv σ1 mk op pl P O Sv)) := by
  refine gg_inI (by decide) (by simp [Value.category]) (Nat.le_of_ble_eq_true rfl) ?_
  intro p e s m args below meth c A C hK
  have S := csS (h0 := h0) (ad := ad) hK
  refine gg_lv (lv1 := [some (.ref h0), some (.int x), some (.int y)]) rfl ?_
  refine gg_iload_n (pc := 0) C dX0_number_0 rfl rfl ?_
  refine gg_iload_n (pc := 1) C dX0_number_1 rfl rfl ?_
  refine gg_callS (pc := 2) C (n := 2) [.int x, .int y] (tS_fits l x y) (lw_S q108 q109 q19 q110) (by decide +kernel) ⟨by decide, by decide⟩ rfl rfl rfl rfl (Nat.le_of_ble_eq_true rfl) dX0_number_2 ⟨by decide, by decide⟩ (fun r h => ?_)
  refine gg_if_eq (pc := 5) C 17 dX0_number_5 (by decide) (fun h1 => ?_) (fun h1 => ?_)
  · rcases h with ⟨rfl, n, s1, hn, hs, rfl, rfl⟩ | ⟨rfl, hno⟩
    · exact absurd h1 (by decide)
    · refine gg_iconst (pc := 17) (v := nI 0) C dX0_number_17 (by decide) ?_
      exact gg_iret (pc := 18) C dX0_number_18 (Or.inl ⟨rfl, hno, hI⟩)
  · rcases h with ⟨rfl, n, s1, hn, hs, rfl, rfl⟩ | ⟨rfl, hno⟩
    · refine gg_aload_n (pc := 8) C dX0_number_8 rfl rfl ?_
      refine gg_iload_n (pc := 9) C dX0_number_9 rfl rfl ?_
      refine gg_iload_n (pc := 10) C dX0_number_10 rfl rfl ?_
      refine gg_callI (pc := 11) C S (n := 2) [.int (nI n), .int (nI s1)] (tS_numberIn l D h0 ad cI cZ σ hI hn hs) (lw_V q163 q165 qs14 q19 q166) (by decide +kernel) ⟨by decide, by decide⟩ rfl rfl rfl rfl (Nat.le_of_ble_eq_true rfl) dX0_number_11 ⟨by decide, by decide⟩ (fun r σ1 h => ?_)
      obtain ⟨rfl, i1⟩ := h
      refine gg_goto (pc := 14) C 18 dX0_number_14 (by decide) ?_
      exact gg_iret (pc := 18) C dX0_number_18 (Or.inr ⟨n, s1, hn, hs, rfl, rfl, rfl, i1⟩)
    · exact absurd rfl h1
/-- follow: so many steps, 16 at most -/
def stp (k : Int32) : Nat := if k < 0 then 0 else if nI 16 < k then 16 else k.toNatClampNeg
def flw (nx : Nat → Option Nat) : Nat → Nat → Int32
  | 0, a => nI a
  | k + 1, a => match nx a with
    | none => -2
    | some b => flw nx k b
theorem stp_le {k : Int32} {i : Nat} (hi : i ≤ 16) (h : k ≤ nI i) : stp k ≤ i := by
  unfold stp
  by_cases h1 : k < 0
  · rw [if_pos h1]; omega
  · obtain ⟨j, hj, rfl⟩ := nI_of h1
    have hji := (nI_leI hj (by omega)).mp h
    rw [if_neg h1]
    by_cases h2 : nI 16 < nI j
    · have := (nI_ltI (by omega) hj).mp h2
      omega
    · rw [if_neg h2, nI_clamp hj]; exact hji
theorem stp_lt {k : Int32} {i : Nat} (hi : i < 16) (h : ¬ k ≤ nI i) : i < stp k := by
  unfold stp
  have h1 : ¬ k < 0 := fun z => h (by
    have z2 := nI_pos' (n := i) (by omega)
    exact Int32.le_of_lt (Int32.lt_of_lt_of_le z z2))
  obtain ⟨j, hj, rfl⟩ := nI_of h1
  rw [if_neg h1]
  by_cases h2 : nI 16 < nI j
  · rw [if_pos h2]; exact hi
  · rw [if_neg h2, nI_clamp hj]
    exact Nat.lt_of_not_le fun z => h ((nI_leI hj (by omega)).mpr z)
theorem stp_16 (k : Int32) : stp k ≤ 16 := by
  unfold stp
  by_cases h1 : k < 0
  · rw [if_pos h1]; omega
  · obtain ⟨j, hj, rfl⟩ := nI_of h1
    rw [if_neg h1]
    by_cases h2 : nI 16 < nI j
    · rw [if_pos h2]; omega
    · rw [if_neg h2, nI_clamp hj]
      exact Nat.le_of_not_lt fun z => h2 ((nI_ltI (by omega) hj).mpr z)
set_option maxRecDepth 100000 in
set_option maxHeartbeats 4000000 in
/-- follow(node, slot, steps) -/
theorem tS_follow (l : Launch) (D : va_G) (h0 : Nat) (ad : Nat → Nat) (cI cZ : ClassId) (σ : ckS) {mk op : Option Nat} {pl : Nat} {P O Sv : Nat → ckR} (hI : ckInv σ mk op pl P O Sv) (hT : Tv P) (x y k : Int32) : ckI l yX0_follow cX0_follow 6 (some .int) (rmD 6) D (csW h0 ad cI cZ) cI cZ [.ref h0, .int x, .int y, .int k] σ (fun r σ1 => (r = -1 ∧ (¬ ∃ n s1, n < 16 ∧ s1 < 4 ∧ x = nI n ∧ y = nI s1) ∧ ckInv σ1 mk op pl P O Sv) ∨ (∃ n s1, n < 16 ∧ s1 < 4 ∧ x = nI n ∧ y = nI s1 ∧ r = flw (fun a => lkO P a s1) (stp k) n ∧ ckInv σ1 mk op pl P O Sv)) := by
  refine gg_inI (by decide) (by simp [Value.category]) (Nat.le_of_ble_eq_true rfl) ?_
  intro p e s m args below meth c A C hK
  have S := csS (h0 := h0) (ad := ad) hK
  refine gg_lv (lv1 := [some (.ref h0), some (.int x), some (.int y), some (.int k), none, none]) rfl ?_
  refine gg_iload_n (pc := 0) C dX0_follow_0 rfl rfl ?_
  refine gg_iload_n (pc := 1) C dX0_follow_1 rfl rfl ?_
  refine gg_callS (pc := 2) C (n := 2) [.int x, .int y] (tS_fits l x y) (lw_S q108 q109 q19 q110) (by decide +kernel) ⟨by decide, by decide⟩ rfl rfl rfl rfl (Nat.le_of_ble_eq_true rfl) dX0_follow_2 ⟨by decide, by decide⟩ (fun r h => ?_)
  refine gg_if_ne (pc := 5) C 10 dX0_follow_5 (by decide) (fun h1 => ?_) (fun h1 => ?_)
  · rcases h with ⟨rfl, n, s1, hn, hs, rfl, rfl⟩ | ⟨rfl, hno⟩
    · refine gg_iload_n (pc := 10) C dX0_follow_10 rfl rfl ?_
      refine gg_istore (pc := 11) C dX0_follow_11 (by decide) rfl ?_
      refine gg_iconst (pc := 13) (v := nI 0) C dX0_follow_13 (by decide) ?_
      refine gg_istore (pc := 14) C dX0_follow_14 (by decide) rfl ?_
      refine gg_loopX (F := GG p l e (rmD 6) s m args below meth c _ D _ A 6 0 0) 16 [] (fun i (X : ckS × Nat) => [some (.ref h0), some (.int (nI n)), some (.int (nI s1)), some (.int k), some (.int (nI X.2)), some (.int (nI i))]) (fun X => X.1) (fun i X => ckInv X.1 mk op pl P O Sv ∧ X.2 < 16 ∧ i ≤ stp k ∧ flw (fun a => lkO P a s1) (stp k) n = flw (fun a => lkO P a s1) (stp k - i) X.2) 16 (fun i X hi hX ih => ?_) (σ, n) 0 (by omega) ⟨hI, hn, by omega, rfl⟩
      obtain ⟨σ1, a⟩ := X
      obtain ⟨i1, ha, hik, hfl⟩ := hX
      have i1 : ckInv σ1 mk op pl P O Sv := i1
      have ha : a < 16 := ha
      have xit : stp k ≤ i → GG p l e (rmD 6) s m args below meth c (MQ below (va_Qi (fun r σ1 => (r = -1 ∧ (¬ ∃ n_ s1_, n_ < 16 ∧ s1_ < 4 ∧ nI n = nI n_ ∧ nI s1 = nI s1_) ∧ ckInv σ1 mk op pl P O Sv) ∨ (∃ n_ s1_, n_ < 16 ∧ s1_ < 4 ∧ nI n = nI n_ ∧ nI s1 = nI s1_ ∧ r = flw (fun a => lkO P a s1_) (stp k) n_ ∧ ckInv σ1 mk op pl P O Sv)) (ckB D (csW h0 ad cI cZ) A) A) args s 0 0 A) D (csW h0 ad cI cZ) A 6 0 0 52 [some (.ref h0), some (.int (nI n)), some (.int (nI s1)), some (.int k), some (.int (nI a)), some (.int (nI i))] [] σ1 := by
        intro hq
        rw [show stp k - i = 0 by omega] at hfl
        refine gg_iload (pc := 52) C dX0_follow_52 rfl ?_
        exact gg_iret (pc := 54) C dX0_follow_54 (Or.inr ⟨n, s1, hn, hs, rfl, rfl, hfl.symm, i1⟩)
      refine gg_iload (pc := 16) C dX0_follow_16 rfl ?_
      refine gg_iload_n (pc := 18) C dX0_follow_18 rfl rfl ?_
      refine gg_icmp_ge (pc := 19) C 52 dX0_follow_19 (by decide) (fun h2 => ?_) (fun h2 => ?_)
      · exact xit (stp_le hi h2)
      · refine gg_iload (pc := 22) C dX0_follow_22 rfl ?_
        refine gg_bipush (pc := 24) (v := nI 16) C dX0_follow_24 (by decide) ?_
        refine gg_icmp_geN (pc := 26) C 52 dX0_follow_26 (by decide) (by omega) (by omega) (fun h3 => ?_) (fun h3 => ?_)
        · exact xit (by have := stp_16 k; omega)
        · have hlt := stp_lt h3 h2
          obtain ⟨q, hq⟩ : ∃ q, stp k - i = q + 1 := ⟨stp k - i - 1, by omega⟩
          rw [hq] at hfl
          refine gg_aload_n (pc := 29) C dX0_follow_29 rfl rfl ?_
          refine gg_iload (pc := 30) C dX0_follow_30 rfl ?_
          refine gg_iload_n (pc := 32) C dX0_follow_32 rfl rfl ?_
          refine gg_callI (pc := 33) C S (n := 2) [.int (nI a), .int (nI s1)] (tS_liveKey l D h0 ad cI cZ σ1 i1 ha hs hT) (lw_V q159 q161 qs13 q19 q162) (by decide +kernel) ⟨by decide, by decide⟩ rfl rfl rfl rfl (Nat.le_of_ble_eq_true rfl) dX0_follow_33 ⟨by decide, by decide⟩ (fun r σ2 h => ?_)
          obtain ⟨rfl, i2⟩ := h
          refine gg_istore (pc := 36) C dX0_follow_36 (by decide) rfl ?_
          refine gg_iload (pc := 38) C dX0_follow_38 rfl ?_
          refine gg_if_ge (pc := 40) C 46 dX0_follow_40 (by decide) (fun h4 => ?_) (fun h4 => ?_)
          · cases hl : lkO P a s1 with
            | none => rw [hl] at h4; exact absurd h4 (by decide)
            | some t =>
              refine gg_iincN (pc := 46) C dX0_follow_46 rfl (by decide) rfl ?_
              refine gg_goto (pc := 49) C 16 dX0_follow_49 (by decide) ?_
              exact ih (σ2, t) h3 ⟨i2, lkO_lt hT ha hs hl, by omega, by rw [hfl, flw, hl, show stp k - (i + 1) = q by omega]⟩
          · cases hl : lkO P a s1 with
            | some t =>
              have ht := lkO_lt hT ha hs hl
              rw [hl] at h4; exact absurd (nI_pos' (by omega)) h4
            | none =>
              refine gg_bipush (pc := 43) (v := -2) C dX0_follow_43 (by decide) ?_
              exact gg_iret (pc := 45) C dX0_follow_45 (Or.inr ⟨n, s1, hn, hs, rfl, rfl, by rw [hfl, flw, hl], i2⟩)
    · exact absurd rfl h1
  · rcases h with ⟨rfl, n, s1, hn, hs, rfl, rfl⟩ | ⟨rfl, hno⟩
    · exact absurd h1 (by decide)
    · refine gg_iconst (pc := 8) (v := -1) C dX0_follow_8 (by decide) ?_
      exact gg_iret (pc := 9) C dX0_follow_9 (Or.inl ⟨rfl, hno, hI⟩)
end
section
/-! WALKS of the store's calls: rescind, keysTo, moveHome, snapshot, settle, idle, restart, crash -/
theorem fgE {lv : ckL} : ∀ (i : Nat) (v : Value), ([] : ckL)[i]? = some (some v) → lv[i]? = some (some v) := fun i v h => by simp at h
theorem fgS {lv1 lv : ckL} {x : Option Value} (h : ∀ (i : Nat) (v : Value), lv1[i]? = some (some v) → lv[i]? = some (some v)) : ∀ (i : Nat) (v : Value), (x :: lv1)[i]? = some (some v) → (x :: lv)[i]? = some (some v) := fun i v hv => by
  cases i with
  | zero => exact hv
  | succ i => exact h i v hv
theorem fgN {lv1 lv : ckL} {x : Option Value} (h : ∀ (i : Nat) (v : Value), lv1[i]? = some (some v) → lv[i]? = some (some v)) : ∀ (i : Nat) (v : Value), (none :: lv1)[i]? = some (some v) → (x :: lv)[i]? = some (some v) := fun i v hv => by
  cases i with
  | zero => simp at hv
  | succ i => exact h i v hv
/-- a node's record once it is rescinded: the next version, empty slots -/
def clr (v : Int32) : ckR := fun j => if j = 0 then v else if j < 5 then 0 else if j < 9 then -1 else 0
/-- rescind's loop over the four slots of frame f -/
def p_rs (f : Nat) : Nat → ckS → ckS
  | 0, σ => σ
  | i + 1, σ => ckUp (ckUp (ckUp (p_rs f i σ) 13 (upd (p_rs f i σ 13) (4 * f + i) 0)) 14 (upd (p_rs f i σ 14) (4 * f + i) (-1))) 15 (upd (p_rs f i σ 15) (4 * f + i) 0)
theorem p_rs_k (f : Nat) (σ : ckS) : ∀ (i k : Nat), k ≠ 13 → k ≠ 14 → k ≠ 15 → p_rs f i σ k = σ k := by
  intro i
  induction i with
  | zero => intro k _ _ _; rfl
  | succ i ih => intro k h1 h2 h3; rw [p_rs, kUp_n h3, kUp_n h2, kUp_n h1]; exact ih k h1 h2 h3
theorem p_rs_13 (f : Nat) (σ : ckS) : ∀ (i : Nat), p_rs f i σ 13 = cpy4 (σ 13) (fun _ => 0) (4 * f) 0 i ∧ p_rs f i σ 14 = cpy4 (σ 14) (fun _ => -1) (4 * f) 0 i ∧ p_rs f i σ 15 = cpy4 (σ 15) (fun _ => 0) (4 * f) 0 i := by
  intro i
  induction i with
  | zero => rw [cpy4_0, cpy4_0, cpy4_0]; exact ⟨rfl, rfl, rfl⟩
  | succ i ih =>
    obtain ⟨h1, h2, h3⟩ := ih
    rw [p_rs]
    refine ⟨?_, ?_, ?_⟩
    · rw [kUp_n (by omega), kUp_n (by omega), kUp_s, h1]; exact cpy4_s (σ 13) (fun _ => 0) (4 * f) 0 i
    · rw [kUp_n (by omega), kUp_s, h2]; exact cpy4_s (σ 14) (fun _ => -1) (4 * f) 0 i
    · rw [kUp_s, h3]; exact cpy4_s (σ 15) (fun _ => 0) (4 * f) 0 i
theorem rc_rs (v a b c : Nat → Int32) (f : Nat) (x : Int32) (z : Nat) : rc (upd v f x) (cpy4 a (fun _ => 0) (4 * f) 0 4) (cpy4 b (fun _ => -1) (4 * f) 0 4) (cpy4 c (fun _ => 0) (4 * f) 0 4) z = if z = f then clr x else rc v a b c z := by
  by_cases h : z = f
  · subst h
    rw [if_pos rfl]
    funext j
    unfold rc cpy4 clr
    by_cases j0 : j = 0
    · rw [if_pos j0, if_pos j0, up_s]
    · rw [if_neg j0, if_neg j0]
      by_cases j1 : j < 5
      · rw [if_pos j1, if_pos j1, if_pos (by omega)]
      · rw [if_neg j1, if_neg j1]
        by_cases j2 : j < 9
        · rw [if_pos j2, if_pos j2, if_pos (by omega)]
        · rw [if_neg j2, if_neg j2]
          by_cases j3 : j < 13
          · rw [if_pos j3, if_pos (by omega)]
          · rw [if_neg j3]
  · rw [if_neg h]
    funext j
    unfold rc cpy4
    by_cases j0 : j = 0
    · rw [if_pos j0, if_pos j0, up_n h]
    · rw [if_neg j0, if_neg j0]
      by_cases j1 : j < 5
      · rw [if_pos j1, if_pos j1, if_neg (by omega)]
      · rw [if_neg j1, if_neg j1]
        by_cases j2 : j < 9
        · rw [if_pos j2, if_pos j2, if_neg (by omega)]
        · rw [if_neg j2, if_neg j2]
          by_cases j3 : j < 13
          · rw [if_pos j3, if_pos j3, if_neg (by omega)]
          · rw [if_neg j3, if_neg j3]
theorem inv_rs {σ : ckS} {mk op : Option Nat} {pl : Nat} {P O S : Nat → ckR} (h : ckInv σ mk op pl P O S) {f n : Nat} (hf : f < 5) (hn : n < 16) (hN : σ 10 f = nI n) (hD : σ 11 f = 1) (hF : σ 12 f = 0) : ckInv (p_rs f 4 (ckUp σ 16 (upd (σ 16) f (σ 16 f + 1)))) mk op pl (updR P n (clr (P n 0 + 1))) O S := by
  have e := inv_fr h hf hn hN
  have e0 : σ 16 f = P n 0 := by rw [← e]; rfl
  obtain ⟨s1, s2, s3, s4, w1, r⟩ := h
  have r1 := iv_put w1 r hf hn hN hF hD (clr (P n 0 + 1))
  generalize hτ : ckUp σ 16 (upd (σ 16) f (σ 16 f + 1)) = τ
  have kτ : ∀ k, k ≠ 16 → τ k = σ k := fun k hk => by rw [← hτ, kUp_n hk]
  have k16 : τ 16 = upd (σ 16) f (σ 16 f + 1) := by rw [← hτ, kUp_s]
  have kk : ∀ k, k ≠ 13 → k ≠ 14 → k ≠ 15 → k ≠ 16 → p_rs f 4 τ k = σ k := fun k h1 h2 h3 h4 => by rw [p_rs_k f τ 4 k h1 h2 h3]; exact kτ k h4
  obtain ⟨q1, q2, q3⟩ := p_rs_13 f τ 4
  refine inv_mk w1 r1 (kk 8 (by omega) (by omega) (by omega) (by omega)) (ck_lgk fun j h1 h2 => kk j (by omega) (by omega) (by omega) (by omega)) (ck_hmk fun j h1 => kk j (by omega) (by omega) (by omega) (by omega)) ?_ (kk 10 (by omega) (by omega) (by omega) (by omega)) (kk 11 (by omega) (by omega) (by omega) (by omega)) (kk 12 (by omega) (by omega) (by omega) (by omega)) (by rw [kk 9 (by omega) (by omega) (by omega) (by omega)]; exact s1) (by rw [kk 18 (by omega) (by omega) (by omega) (by omega)]; exact s2) (by rw [kk 19 (by omega) (by omega) (by omega) (by omega)]; exact s3) (by rw [kk 17 (by omega) (by omega) (by omega) (by omega)]; exact s4)
  funext z
  unfold ckFr
  rw [q1, q2, q3, p_rs_k f τ 4 16 (by omega) (by omega) (by omega), k16, kτ 13 (by omega), kτ 14 (by omega), kτ 15 (by omega), rc_rs, e0]
  rfl
set_option maxRecDepth 100000 in
set_option maxHeartbeats 4000000 in
/-- rescind(node) -/
theorem tS_rescind (l : Launch) (D : va_G) (h0 : Nat) (ad : Nat → Nat) (cI cZ : ClassId) (σ : ckS) {mk op : Option Nat} {pl : Nat} {P O Sv : Nat → ckR} (hI : ckInv σ mk op pl P O Sv) (x : Int32) : ckI l yX0_rescind cX0_rescind 4 (some .int) (rmD 4) D (csW h0 ad cI cZ) cI cZ [.ref h0, .int x] σ (fun r σ1 => (r = -1 ∧ (¬ ∃ n, n < 16 ∧ x = nI n) ∧ ckInv σ1 mk op pl P O Sv) ∨ (∃ n, n < 16 ∧ x = nI n ∧ r = 0 ∧ ckInv σ1 mk op pl (updR P n (clr (P n 0 + 1))) O Sv)) := by
  refine gg_inI (by decide) (by simp [Value.category]) (Nat.le_of_ble_eq_true rfl) ?_
  intro p e s m args below meth c A C hK
  have S := csS (h0 := h0) (ad := ad) hK
  refine gg_lv (lv1 := [some (.ref h0), some (.int x), none, none]) rfl ?_
  have no : (¬ ∃ n, n < 16 ∧ x = nI n) → GG p l e (rmD 4) s m args below meth c (MQ below (va_Qi (fun r σ1 => (r = -1 ∧ (¬ ∃ n, n < 16 ∧ x = nI n) ∧ ckInv σ1 mk op pl P O Sv) ∨ (∃ n, n < 16 ∧ x = nI n ∧ r = 0 ∧ ckInv σ1 mk op pl (updR P n (clr (P n 0 + 1))) O Sv)) (ckB D (csW h0 ad cI cZ) A) A) args s 0 0 A) D (csW h0 ad cI cZ) A 4 0 0 10 [some (.ref h0), some (.int x), none, none] [] σ := by
    intro hno
    refine gg_iconst (pc := 10) (v := -1) C dX0_rescind_10 (by decide) ?_
    exact gg_iret (pc := 11) C dX0_rescind_11 (Or.inl ⟨rfl, hno, hI⟩)
  refine gg_iload_n (pc := 0) C dX0_rescind_0 rfl rfl ?_
  refine gg_if_lt (pc := 1) C 10 dX0_rescind_1 (by decide) (fun h1 => ?_) (fun h1 => ?_)
  · exact no (fun ⟨n, hn, e1⟩ => absurd h1 (by rw [e1]; exact nI_pos (by omega)))
  · refine gg_iload_n (pc := 4) C dX0_rescind_4 rfl rfl ?_
    refine gg_bipush (pc := 5) (v := nI 15) C dX0_rescind_5 (by decide) ?_
    refine gg_icmp_le (pc := 7) C 12 dX0_rescind_7 (by decide) (fun h2 => ?_) (fun h2 => ?_)
    · obtain ⟨n, hn, rfl⟩ := nI_of2 (M := nI 15) (n := 15) (by decide) h1 h2
      have hn : n < 16 := by omega
      refine gg_aload_n (pc := 12) C dX0_rescind_12 rfl rfl ?_
      refine gg_iload_n (pc := 13) C dX0_rescind_13 rfl rfl ?_
      refine gg_callI (pc := 14) C S (n := 1) [.int (nI n)] (tS_frameFor l D h0 ad cI cZ σ hI hn) (lw_V q115 q117 qs4 q19 q118) (by decide +kernel) ⟨by decide, by decide⟩ rfl rfl rfl rfl (Nat.le_of_ble_eq_true rfl) dX0_rescind_14 ⟨by decide, by decide⟩ (fun r σ1 h => ?_)
      obtain ⟨f, hf, rfl, hN, i1⟩ := h
      refine gg_istore_n (pc := 17) C dX0_rescind_17 rfl (by decide) rfl ?_
      refine gg_aload_n (pc := 18) C dX0_rescind_18 rfl rfl ?_
      refine gg_iload_n (pc := 19) C dX0_rescind_19 rfl rfl ?_
      refine gg_callV (pc := 20) C S (n := 1) [.int (nI f)] (tS_makeWritable l D h0 ad cI cZ σ1 i1 hf hn hN) (lw_V q143 q145 qs11 q19 q146) (by decide +kernel) ⟨by decide, by decide⟩ rfl rfl rfl rfl (Nat.le_of_ble_eq_true rfl) dX0_rescind_20 ⟨by decide, by decide⟩ (fun σ2 h => ?_)
      obtain ⟨i2, e10, e11, e12⟩ := h
      refine gg_aload_n (pc := 23) C dX0_rescind_23 rfl rfl ?_
      refine gg_getA (pc := 24) C S 16 (by decide) (Or.inl rfl) q57 dX0_rescind_24 ?_
      refine gg_iload_n (pc := 27) C dX0_rescind_27 rfl rfl ?_
      refine gg_dup2 (pc := 28) C dX0_rescind_28 rfl rfl ?_
      refine gg_iald (pc := 29) C S 5 rfl rfl (by omega) (by decide) dX0_rescind_29 ?_
      refine gg_iconst (pc := 30) (v := nI 1) C dX0_rescind_30 (by decide) ?_
      refine gg_iadd (pc := 31) C dX0_rescind_31 ?_
      refine gg_iast (pc := 32) C S 5 rfl rfl (by omega) (by decide) dX0_rescind_32 ?_
      refine gg_iconst (pc := 33) (v := nI 4) C dX0_rescind_33 (by decide) ?_
      refine gg_iload_n (pc := 34) C dX0_rescind_34 rfl rfl ?_
      refine gg_imulN (pc := 35) C dX0_rescind_35 ?_
      refine gg_istore_n (pc := 36) C dX0_rescind_36 rfl (by decide) rfl ?_
      refine gg_loop (F := GG p l e (rmD 4) s m args below meth c _ D _ A 4 0 0) 37 [] (fun i => [some (.ref h0), some (.int (nI n)), some (.int (nI f)), some (.int (nI (4 * f + i)))]) (fun i => p_rs f i (ckUp σ2 16 (upd (σ2 16) f (σ2 16 f + 1)))) 4 (fun i hi ih => ?_)
      refine gg_iload_n (pc := 37) C dX0_rescind_37 rfl rfl ?_
      refine gg_iconst (pc := 38) (v := nI 4) C dX0_rescind_38 (by decide) ?_
      refine gg_iload_n (pc := 39) C dX0_rescind_39 rfl rfl ?_
      refine gg_imulN (pc := 40) C dX0_rescind_40 ?_
      refine gg_iconst (pc := 41) (v := nI 4) C dX0_rescind_41 (by decide) ?_
      refine gg_iaddN (pc := 42) C dX0_rescind_42 ?_
      refine gg_icmp_geN (pc := 43) C 73 dX0_rescind_43 (by decide) (by omega) (by omega) (fun h => ?_) (fun h => ?_)
      · obtain rfl : i = 4 := by omega
        refine gg_iconst (pc := 73) (v := nI 0) C dX0_rescind_73 (by decide) ?_
        exact gg_iret (pc := 74) C dX0_rescind_74 (Or.inr ⟨n, hn, rfl, rfl, inv_rs i2 hf hn (by rw [e10]; exact hN) e11 e12⟩)
      · refine gg_aload_n (pc := 46) C dX0_rescind_46 rfl rfl ?_
        refine gg_getA (pc := 47) C S 13 (by decide) (Or.inl rfl) q54 dX0_rescind_47 ?_
        refine gg_iload_n (pc := 50) C dX0_rescind_50 rfl rfl ?_
        refine gg_iconst (pc := 51) (v := nI 0) C dX0_rescind_51 (by decide) ?_
        refine gg_iast (pc := 52) C S 20 rfl rfl (by omega) (by decide) dX0_rescind_52 ?_
        refine gg_aload_n (pc := 53) C dX0_rescind_53 rfl rfl ?_
        refine gg_getA (pc := 54) C S 14 (by decide) (Or.inl rfl) q55 dX0_rescind_54 ?_
        refine gg_iload_n (pc := 57) C dX0_rescind_57 rfl rfl ?_
        refine gg_iconst (pc := 58) (v := -1) C dX0_rescind_58 (by decide) ?_
        refine gg_iast (pc := 59) C S 20 rfl rfl (by omega) (by decide) dX0_rescind_59 ?_
        refine gg_aload_n (pc := 60) C dX0_rescind_60 rfl rfl ?_
        refine gg_getA (pc := 61) C S 15 (by decide) (Or.inl rfl) q56 dX0_rescind_61 ?_
        refine gg_iload_n (pc := 64) C dX0_rescind_64 rfl rfl ?_
        refine gg_iconst (pc := 65) (v := nI 0) C dX0_rescind_65 (by decide) ?_
        refine gg_iast (pc := 66) C S 20 rfl rfl (by omega) (by decide) dX0_rescind_66 ?_
        refine gg_iincN (pc := 67) C dX0_rescind_67 rfl (by decide) rfl ?_
        refine gg_goto (pc := 70) C 37 dX0_rescind_70 (by decide) ?_
        exact ih (by omega)
    · exact no (fun ⟨n, hn, e1⟩ => absurd (by rw [e1]; exact nI_le (by omega) (by omega)) h2)
/-- how many of the first k places have p -/
def cntB (q : Nat → Bool) : Nat → Nat
  | 0 => 0
  | k + 1 => if q k then cntB q k + 1 else cntB q k
theorem cntB_le (q : Nat → Bool) : ∀ k, cntB q k ≤ k := by
  intro k
  induction k with
  | zero => exact Nat.le_refl _
  | succ k ih => rw [cntB]; split <;> omega
/-- place i holds a live key to node n -/
def kyP (P : Nat → ckR) (n : Nat) (i : Nat) : Bool := decide (P (i / 4) (5 + i % 4) = nI n ∧ P (i / 4) (9 + i % 4) = P n 0)
set_option maxRecDepth 100000 in
set_option maxHeartbeats 4000000 in
/-- keysTo(node) -/
theorem tS_keysTo (l : Launch) (D : va_G) (h0 : Nat) (ad : Nat → Nat) (cI cZ : ClassId) (σ : ckS) {mk op : Option Nat} {pl : Nat} {P O Sv : Nat → ckR} (hI : ckInv σ mk op pl P O Sv) (x : Int32) : ckI l yX0_keysTo cX0_keysTo 7 (some .int) (rmD 5) D (csW h0 ad cI cZ) cI cZ [.ref h0, .int x] σ (fun r σ1 => (r = -1 ∧ (¬ ∃ n, n < 16 ∧ x = nI n) ∧ ckInv σ1 mk op pl P O Sv) ∨ (∃ n, n < 16 ∧ x = nI n ∧ r = nI (cntB (kyP P n) 64) ∧ ckInv σ1 mk op pl P O Sv)) := by
  refine gg_inI (by decide) (by simp [Value.category]) (Nat.le_of_ble_eq_true rfl) ?_
  intro p e s m args below meth c A C hK
  have S := csS (h0 := h0) (ad := ad) hK
  refine gg_lv (lv1 := [some (.ref h0), some (.int x), none, none, none, none, none]) rfl ?_
  have no : (¬ ∃ n, n < 16 ∧ x = nI n) → GG p l e (rmD 5) s m args below meth c (MQ below (va_Qi (fun r σ1 => (r = -1 ∧ (¬ ∃ n, n < 16 ∧ x = nI n) ∧ ckInv σ1 mk op pl P O Sv) ∨ (∃ n, n < 16 ∧ x = nI n ∧ r = nI (cntB (kyP P n) 64) ∧ ckInv σ1 mk op pl P O Sv)) (ckB D (csW h0 ad cI cZ) A) A) args s 0 0 A) D (csW h0 ad cI cZ) A 7 0 0 10 [some (.ref h0), some (.int x), none, none, none, none, none] [] σ := by
    intro hno
    refine gg_iconst (pc := 10) (v := -1) C dX0_keysTo_10 (by decide) ?_
    exact gg_iret (pc := 11) C dX0_keysTo_11 (Or.inl ⟨rfl, hno, hI⟩)
  refine gg_iload_n (pc := 0) C dX0_keysTo_0 rfl rfl ?_
  refine gg_if_lt (pc := 1) C 10 dX0_keysTo_1 (by decide) (fun h1 => ?_) (fun h1 => ?_)
  · exact no (fun ⟨n, hn, e1⟩ => absurd h1 (by rw [e1]; exact nI_pos (by omega)))
  · refine gg_iload_n (pc := 4) C dX0_keysTo_4 rfl rfl ?_
    refine gg_bipush (pc := 5) (v := nI 15) C dX0_keysTo_5 (by decide) ?_
    refine gg_icmp_le (pc := 7) C 12 dX0_keysTo_7 (by decide) (fun h2 => ?_) (fun h2 => ?_)
    · obtain ⟨n, hn, rfl⟩ := nI_of2 (M := nI 15) (n := 15) (by decide) h1 h2
      have hn : n < 16 := by omega
      refine gg_aload_n (pc := 12) C dX0_keysTo_12 rfl rfl ?_
      refine gg_iload_n (pc := 13) C dX0_keysTo_13 rfl rfl ?_
      refine gg_callI (pc := 14) C S (n := 1) [.int (nI n)] (tS_versionOf l D h0 ad cI cZ σ hI hn) (lw_V q151 q153 qs12 q19 q154) (by decide +kernel) ⟨by decide, by decide⟩ rfl rfl rfl rfl (Nat.le_of_ble_eq_true rfl) dX0_keysTo_14 ⟨by decide, by decide⟩ (fun r σ0 h => ?_)
      obtain ⟨rfl, i0⟩ := h
      refine gg_istore_n (pc := 17) C dX0_keysTo_17 rfl (by decide) rfl ?_
      refine gg_iconst (pc := 18) (v := nI 0) C dX0_keysTo_18 (by decide) ?_
      refine gg_istore_n (pc := 19) C dX0_keysTo_19 rfl (by decide) rfl ?_
      refine gg_iconst (pc := 20) (v := nI 0) C dX0_keysTo_20 (by decide) ?_
      refine gg_istore (pc := 21) C dX0_keysTo_21 (by decide) rfl ?_
      refine gg_lvf (lv1 := [some (.ref h0), some (.int (nI n)), some (.int (P n 0)), some (.int (nI 0)), some (.int (nI 0)), none, none]) (fun _ _ h => h) ?_
      refine gg_loopX (F := GG p l e (rmD 5) s m args below meth c _ D _ A 7 0 0) 23 [] (fun i (_ : ckS) => [some (.ref h0), some (.int (nI n)), some (.int (P n 0)), some (.int (nI (cntB (kyP P n) (4 * i)))), some (.int (nI i)), none, none]) (fun X => X) (fun i X => ckInv X mk op pl P O Sv) 16 (fun i σ1 hi i1 ih => ?_) σ0 0 (by omega) i0
      refine gg_iload (pc := 23) C dX0_keysTo_23 rfl ?_
      refine gg_bipush (pc := 25) (v := nI 16) C dX0_keysTo_25 (by decide) ?_
      refine gg_icmp_geN (pc := 27) C 92 dX0_keysTo_27 (by decide) (by omega) (by omega) (fun h3 => ?_) (fun h3 => ?_)
      · obtain rfl : i = 16 := by omega
        refine gg_iload_n (pc := 92) C dX0_keysTo_92 rfl rfl ?_
        exact gg_iret (pc := 93) C dX0_keysTo_93 (Or.inr ⟨n, hn, rfl, rfl, i1⟩)
      · refine gg_aload_n (pc := 30) C dX0_keysTo_30 rfl rfl ?_
        refine gg_iload (pc := 31) C dX0_keysTo_31 rfl ?_
        refine gg_callI (pc := 33) C S (n := 1) [.int (nI i)] (tS_frameFor l D h0 ad cI cZ σ1 i1 h3) (lw_V q115 q117 qs4 q19 q118) (by decide +kernel) ⟨by decide, by decide⟩ rfl rfl rfl rfl (Nat.le_of_ble_eq_true rfl) dX0_keysTo_33 ⟨by decide, by decide⟩ (fun r σ2 h => ?_)
        obtain ⟨f, hf, rfl, hN, i2⟩ := h
        refine gg_istore (pc := 36) C dX0_keysTo_36 (by decide) rfl ?_
        refine gg_iconst (pc := 38) (v := nI 4) C dX0_keysTo_38 (by decide) ?_
        refine gg_iload (pc := 39) C dX0_keysTo_39 rfl ?_
        refine gg_imulN (pc := 41) C dX0_keysTo_41 ?_
        refine gg_istore (pc := 42) C dX0_keysTo_42 (by decide) rfl ?_
        refine gg_loop (F := GG p l e (rmD 5) s m args below meth c _ D _ A 7 0 0) 44 [] (fun j => [some (.ref h0), some (.int (nI n)), some (.int (P n 0)), some (.int (nI (cntB (kyP P n) (4 * i + j)))), some (.int (nI i)), some (.int (nI f)), some (.int (nI (4 * f + j)))]) (fun _ => σ2) 4 (fun j hj ih2 => ?_)
        refine gg_iload (pc := 44) C dX0_keysTo_44 rfl ?_
        refine gg_iconst (pc := 46) (v := nI 4) C dX0_keysTo_46 (by decide) ?_
        refine gg_iload (pc := 47) C dX0_keysTo_47 rfl ?_
        refine gg_imulN (pc := 49) C dX0_keysTo_49 ?_
        refine gg_iconst (pc := 50) (v := nI 4) C dX0_keysTo_50 (by decide) ?_
        refine gg_iaddN (pc := 51) C dX0_keysTo_51 ?_
        refine gg_icmp_geN (pc := 52) C 86 dX0_keysTo_52 (by decide) (by omega) (by omega) (fun h4 => ?_) (fun h4 => ?_)
        · obtain rfl : j = 4 := by omega
          refine gg_iincN (pc := 86) C dX0_keysTo_86 rfl (by decide) rfl ?_
          refine gg_goto (pc := 89) C 23 dX0_keysTo_89 (by decide) ?_
          exact gg_lvf (fgS (fgS (fgS (fgS (fgS (fgN (fgN fgE))))))) (ih σ2 h3 i2)
        · have hj4 : j < 4 := by omega
          have e5 : σ2 14 (4 * f + j) = P i (5 + j) := by rw [← inv_fr i2 hf h3 hN, fr_t _ _ hj4]
          have e9 : σ2 15 (4 * f + j) = P i (9 + j) := by rw [← inv_fr i2 hf h3 hN, fr_s _ _ hj4]
          have ek : kyP P n (4 * i + j) = decide (P i (5 + j) = nI n ∧ P i (9 + j) = P n 0) := by
            unfold kyP
            rw [show (4 * i + j) / 4 = i by omega, show (4 * i + j) % 4 = j by omega]
          have tl : ∀ c1, c1 = cntB (kyP P n) (4 * i + j + 1) → GG p l e (rmD 5) s m args below meth c (MQ below (va_Qi (fun r σ1 => (r = -1 ∧ (¬ ∃ n_, n_ < 16 ∧ nI n = nI n_) ∧ ckInv σ1 mk op pl P O Sv) ∨ (∃ n_, n_ < 16 ∧ nI n = nI n_ ∧ r = nI (cntB (kyP P n_) 64) ∧ ckInv σ1 mk op pl P O Sv)) (ckB D (csW h0 ad cI cZ) A) A) args s 0 0 A) D (csW h0 ad cI cZ) A 7 0 0 80 [some (.ref h0), some (.int (nI n)), some (.int (P n 0)), some (.int (nI c1)), some (.int (nI i)), some (.int (nI f)), some (.int (nI (4 * f + j)))] [] σ2 := by
            intro c1 ec
            subst ec
            refine gg_iincN (pc := 80) C dX0_keysTo_80 rfl (by decide) rfl ?_
            refine gg_goto (pc := 83) C 44 dX0_keysTo_83 (by decide) ?_
            exact ih2 hj4
          refine gg_aload_n (pc := 55) C dX0_keysTo_55 rfl rfl ?_
          refine gg_getA (pc := 56) C S 14 (by decide) (Or.inl rfl) q55 dX0_keysTo_56 ?_
          refine gg_iload (pc := 59) C dX0_keysTo_59 rfl ?_
          refine gg_iald (pc := 61) C S 20 rfl rfl (by omega) (by decide) dX0_keysTo_61 ?_
          refine gg_top e5 ?_
          refine gg_iload_n (pc := 62) C dX0_keysTo_62 rfl rfl ?_
          refine gg_icmp_ne (pc := 63) C 80 dX0_keysTo_63 (by decide) (fun h5 => ?_) (fun h5 => ?_)
          · exact tl _ (by rw [cntB, ek, if_neg (by simp [h5])])
          · refine gg_aload_n (pc := 66) C dX0_keysTo_66 rfl rfl ?_
            refine gg_getA (pc := 67) C S 15 (by decide) (Or.inl rfl) q56 dX0_keysTo_67 ?_
            refine gg_iload (pc := 70) C dX0_keysTo_70 rfl ?_
            refine gg_iald (pc := 72) C S 20 rfl rfl (by omega) (by decide) dX0_keysTo_72 ?_
            refine gg_top e9 ?_
            refine gg_iload_n (pc := 73) C dX0_keysTo_73 rfl rfl ?_
            refine gg_icmp_ne (pc := 74) C 80 dX0_keysTo_74 (by decide) (fun h6 => ?_) (fun h6 => ?_)
            · exact tl _ (by rw [cntB, ek, if_neg (by simp [h6])])
            · refine gg_iincN (pc := 77) C dX0_keysTo_77 rfl (by decide) rfl ?_
              exact tl _ (by rw [cntB, ek, if_pos (by simp [h5, h6])])
    · exact no (fun ⟨n, hn, e1⟩ => absurd (by rw [e1]; exact nI_le (by omega) (by omega)) h2)
section IV4
variable {σ : ckS} {mk op : Option Nat} {pl : Nat} {P O S : Nat → ckR}
theorem inv_move (h : ckInv σ mk op pl P O S) {m n : Nat} (hm : mk = some m) (hn : n < 16) (hL : σ 8 (16 * m + n) = 1) {σ1 : ckS} (e1 : σ1 = ckUp (p_cpH (16 * m + n) n σ) 8 (upd (p_cpH (16 * m + n) n σ 8) (16 * m + n) 0)) : ckInv σ1 mk op pl P O S ∧ σ1 12 = σ 12 ∧ σ1 8 = upd (σ 8) (16 * m + n) 0 := by
  obtain ⟨s1, s2, s3, s4, w, r⟩ := h
  have k : ∀ k, 4 ≤ k → k ≠ 8 → σ1 k = σ k := by
    intro k hk h1
    rw [e1, kUp_n h1, p_cpH_k _ _ _ _ hk]
  have k8 : σ1 8 = upd (σ 8) (16 * m + n) 0 := by rw [e1, kUp_s, p_cpH_k _ _ _ _ (by omega)]
  obtain ⟨w1, r1⟩ := iv_move w r hm hn hL
  refine ⟨inv_mk w1 r1 k8 (ck_lgk fun j h1 h2 => k j (by omega) (by omega)) ?_ (ck_frk fun j h1 h2 => k j (by omega) (by omega)) (k 10 (by omega) (by omega)) (k 11 (by omega) (by omega)) (k 12 (by omega) (by omega)) (by rw [k 9 (by omega) (by omega)]; exact s1) (by rw [k 18 (by omega) (by omega)]; exact s2) (by rw [k 19 (by omega) (by omega)]; exact s3) (by rw [k 17 (by omega) (by omega)]; exact s4), k 12 (by omega) (by omega), k8⟩
  rw [← p_cpH_hm]
  exact ck_hmk fun j h1 => by rw [e1, kUp_n (by omega)]
theorem inv_unmark (h : ckInv σ mk op pl P O S) {m : Nat} (hm : mk = some m) (hL : ∀ n, n < 16 → σ 8 (16 * m + n) = 0) : ckInv (ckUp σ 9 (fun _ => -1)) none op pl P O S := by
  obtain ⟨s1, s2, s3, s4, w, r⟩ := h
  obtain ⟨w1, r1⟩ := iv_unmark w r hm hL
  exact ⟨rfl, s2, s3, s4, w1, r1⟩
end IV4
set_option maxRecDepth 100000 in
set_option maxHeartbeats 4000000 in
/-- moveHome(most): some settled nodes go home -/
theorem tS_moveHome (l : Launch) (D : va_G) (h0 : Nat) (ad : Nat → Nat) (cI cZ : ClassId) (σ : ckS) {mk op : Option Nat} {pl : Nat} {P O Sv : Nat → ckR} (hI : ckInv σ mk op pl P O Sv) (x : Int32) : ckV l yX0_moveHome cX0_moveHome 5 (rmD 1) D (csW h0 ad cI cZ) cI cZ [.ref h0, .int x] σ (fun σ1 => ∃ mk1, ckInv σ1 mk1 op pl P O Sv ∧ σ1 12 = σ 12 ∧ (nI 16 ≤ x → ∀ m n, mk1 = some m → n < 16 → σ1 8 (16 * m + n) = 0)) := by
  refine gg_inV (by decide) (by simp [Value.category]) (Nat.le_of_ble_eq_true rfl) ?_
  intro p e s m args below meth c A C hK
  have S := csS (h0 := h0) (ad := ad) hK
  refine gg_lv (lv1 := [some (.ref h0), some (.int x), none, none, none]) rfl ?_
  have hI0 := hI
  obtain ⟨s1, s2, s3, s4, ⟨w1, w2, w3, w4, w5, w6, w7, w8, w9, w10, w11⟩, r⟩ := hI
  refine gg_aload_n (pc := 0) C dX0_moveHome_0 rfl rfl ?_
  refine gg_getI (pc := 1) C S 9 (by decide) rfl q50 dX0_moveHome_1 ?_
  refine gg_top s1 ?_
  refine gg_if_ge (pc := 4) C 8 dX0_moveHome_4 (by decide) (fun h1 => ?_) (fun h1 => ?_)
  · cases mk with
    | none => exact absurd h1 (by decide)
    | some k =>
      have hk := (w2 k rfl).1
      have tl : ∀ (σ1 : ckS) (c1 : Nat) (v : Value), v.category = 1 → ckInv σ1 (some k) op pl P O Sv → σ1 12 = σ 12 → (¬ x ≤ nI c1 → ∀ n, n < 16 → σ1 8 (16 * k + n) = 0) → (nI 16 ≤ x → ∀ n, n < 16 → σ1 8 (16 * k + n) = 0) → GG p l e (rmD 1) s m args below meth c (MQ below (va_Qv (fun σ1 => ∃ mk1, ckInv σ1 mk1 op pl P O Sv ∧ σ1 12 = σ 12 ∧ (nI 16 ≤ x → ∀ m n, mk1 = some m → n < 16 → σ1 8 (16 * m + n) = 0)) (ckB D (csW h0 ad cI cZ) A) A) args s 0 0 A) D (csW h0 ad cI cZ) A 5 0 0 68 [some (.ref h0), some (.int x), some (.int (nI c1)), none, none] [] σ1 := by
        intro σ1 c1 v _ i1 e12 z1 z2
        refine gg_iload_n (pc := 68) C dX0_moveHome_68 rfl rfl ?_
        refine gg_iload_n (pc := 69) C dX0_moveHome_69 rfl rfl ?_
        refine gg_icmp_ge (pc := 70) C 78 dX0_moveHome_70 (by decide) (fun h2 => ?_) (fun h2 => ?_)
        · exact gg_vret (pc := 78) C dX0_moveHome_78 ⟨some k, i1, e12, fun hx m n hm hn => by
            have : m = k := by simpa using hm.symm
            subst this
            exact z2 hx n hn⟩
        · refine gg_aload_n (pc := 73) C dX0_moveHome_73 rfl rfl ?_
          refine gg_iconst (pc := 74) (v := -1) C dX0_moveHome_74 (by decide) ?_
          refine gg_putI (pc := 75) C S 9 (by decide) rfl q50 rfl rfl rfl dX0_moveHome_75 ?_
          exact gg_vret (pc := 78) C dX0_moveHome_78 ⟨none, inv_unmark i1 rfl (z1 h2), e12, fun hx m n hm hn => by simp at hm⟩
      refine gg_iconst (pc := 8) (v := nI 0) C dX0_moveHome_8 (by decide) ?_
      refine gg_istore_n (pc := 9) C dX0_moveHome_9 rfl (by decide) rfl ?_
      refine gg_iconst (pc := 10) (v := nI 0) C dX0_moveHome_10 (by decide) ?_
      refine gg_istore_n (pc := 11) C dX0_moveHome_11 rfl (by decide) rfl ?_
      refine gg_lvf (lv1 := [some (.ref h0), some (.int x), some (.int (nI 0)), some (.int (nI 0)), none]) (fun _ _ h => h) ?_
      refine gg_loopX (F := GG p l e (rmD 1) s m args below meth c _ D _ A 5 0 0) 12 [] (fun i (X : ckS × Nat) => [some (.ref h0), some (.int x), some (.int (nI X.2)), some (.int (nI i)), none]) (fun X => X.1) (fun i X => ckInv X.1 (some k) op pl P O Sv ∧ X.1 12 = σ 12 ∧ X.2 ≤ i ∧ ∀ n, n < i → X.1 8 (16 * k + n) = 0) 16 (fun i X hi hX ih => ?_) (σ, 0) 0 (by omega) ⟨hI0, rfl, by omega, fun n hn => absurd hn (by omega)⟩
      obtain ⟨σ1, c1⟩ := X
      obtain ⟨i1, e12, hc, hcl⟩ := hX
      have i1 : ckInv σ1 (some k) op pl P O Sv := i1
      have e12 : σ1 12 = σ 12 := e12
      have hc : c1 ≤ i := hc
      have hcl : ∀ n, n < i → σ1 8 (16 * k + n) = 0 := hcl
      have fg : ∀ (i1 : Nat) (v : Value), ([some (.ref h0), some (.int x), some (.int (nI c1)), none, none] : ckL)[i1]? = some (some v) → ([some (.ref h0), some (.int x), some (.int (nI c1)), some (.int (nI i)), none] : ckL)[i1]? = some (some v) := fgS (fgS (fgS (fgN (fgN fgE))))
      refine gg_iload_n (pc := 12) C dX0_moveHome_12 rfl rfl ?_
      refine gg_bipush (pc := 13) (v := nI 16) C dX0_moveHome_13 (by decide) ?_
      refine gg_icmp_geN (pc := 15) C 68 dX0_moveHome_15 (by decide) (by omega) (by omega) (fun h3 => ?_) (fun h3 => ?_)
      · refine gg_lvf fg (tl σ1 c1 .null rfl i1 e12 (fun _ n hn => hcl n (by omega)) (fun _ n hn => hcl n (by omega)))
      · refine gg_iload_n (pc := 18) C dX0_moveHome_18 rfl rfl ?_
        refine gg_iload_n (pc := 19) C dX0_moveHome_19 rfl rfl ?_
        refine gg_icmp_ge (pc := 20) C 68 dX0_moveHome_20 (by decide) (fun h4 => ?_) (fun h4 => ?_)
        · refine gg_lvf fg (tl σ1 c1 .null rfl i1 e12 (fun z => absurd h4 z) (fun hx => ?_))
          exact absurd (Int32.le_trans hx h4) (nI_ge (by omega) (by omega))
        · have m1 : σ1 9 0 = nI k := i1.1
          refine gg_bipush (pc := 23) (v := nI 16) C dX0_moveHome_23 (by decide) ?_
          refine gg_aload_n (pc := 25) C dX0_moveHome_25 rfl rfl ?_
          refine gg_getI (pc := 26) C S 9 (by decide) rfl q50 dX0_moveHome_26 ?_
          refine gg_top m1 ?_
          refine gg_imulN (pc := 29) C dX0_moveHome_29 ?_
          refine gg_iload_n (pc := 30) C dX0_moveHome_30 rfl rfl ?_
          refine gg_iaddN (pc := 31) C dX0_moveHome_31 ?_
          refine gg_istore (pc := 32) C dX0_moveHome_32 (by decide) rfl ?_
          refine gg_aload_n (pc := 34) C dX0_moveHome_34 rfl rfl ?_
          refine gg_getA (pc := 35) C S 8 (by decide) (Or.inr rfl) q49 dX0_moveHome_35 ?_
          refine gg_iload (pc := 38) C dX0_moveHome_38 rfl ?_
          refine gg_zald (pc := 40) C S 48 rfl rfl (by omega) (by decide) dX0_moveHome_40 ?_
          refine gg_if_eq (pc := 41) C 62 dX0_moveHome_41 (by decide) (fun h5 => ?_) (fun h5 => ?_)
          · refine gg_iincN (pc := 62) C dX0_moveHome_62 rfl (by decide) rfl ?_
            refine gg_goto (pc := 65) C 12 dX0_moveHome_65 (by decide) ?_
            refine gg_lvf (fgS (fgS (fgS (fgS (fgN fgE))))) (ih (σ1, c1) h3 ⟨i1, e12, by show c1 ≤ i + 1; omega, fun n hn => ?_⟩)
            rcases Nat.lt_or_ge n i with z | z
            · exact hcl n z
            · rw [show n = i by omega]; exact h5
          · have hb : σ1 8 (16 * k + i) = 1 := by
              rcases i1.2.2.2.2.1.2.2.2.2.2.2.2.2.2.2 (16 * k + i) (by omega) with z | z
              · exact absurd z h5
              · exact z
            refine gg_aload_n (pc := 44) C dX0_moveHome_44 rfl rfl ?_
            refine gg_iload (pc := 45) C dX0_moveHome_45 rfl ?_
            refine gg_iload_n (pc := 47) C dX0_moveHome_47 rfl rfl ?_
            refine gg_callV (pc := 48) C S (n := 2) [.int (nI (16 * k + i)), .int (nI i)] (tS_copyHome l D h0 ad cI cZ σ1 (e1 := 16 * k + i) (n := i) (by omega) h3) (lw_V q195 q197 qs16 q19 q198) (by decide +kernel) ⟨by decide, by decide⟩ rfl rfl rfl rfl (Nat.le_of_ble_eq_true rfl) dX0_moveHome_48 ⟨by decide, by decide⟩ (fun σ2 h => ?_)
            subst h
            refine gg_aload_n (pc := 51) C dX0_moveHome_51 rfl rfl ?_
            refine gg_getA (pc := 52) C S 8 (by decide) (Or.inr rfl) q49 dX0_moveHome_52 ?_
            refine gg_iload (pc := 55) C dX0_moveHome_55 rfl ?_
            refine gg_iconst (pc := 57) (v := nI 0) C dX0_moveHome_57 (by decide) ?_
            refine gg_zast (pc := 58) C S 48 rfl rfl (by omega) (by decide) (by decide) dX0_moveHome_58 ?_
            refine gg_iincN (pc := 59) C dX0_moveHome_59 rfl (by decide) rfl ?_
            refine gg_iincN (pc := 62) C dX0_moveHome_62 rfl (by decide) rfl ?_
            refine gg_goto (pc := 65) C 12 dX0_moveHome_65 (by decide) ?_
            obtain ⟨i2, f12, f8⟩ := inv_move i1 rfl h3 hb rfl
            refine gg_lvf (fgS (fgS (fgS (fgS (fgN fgE))))) (ih (ckUp (p_cpH (16 * k + i) i σ1) 8 (upd (p_cpH (16 * k + i) i σ1 8) (16 * k + i) 0), c1 + 1) h3 ⟨i2, f12.trans e12, by show c1 + 1 ≤ i + 1; omega, fun n hn => ?_⟩)
            show ckUp (p_cpH (16 * k + i) i σ1) 8 (upd (p_cpH (16 * k + i) i σ1 8) (16 * k + i) 0) 8 (16 * k + n) = 0
            rw [f8]
            rcases Nat.lt_or_ge n i with z | z
            · rw [up_n (by omega)]; exact hcl n z
            · rw [show n = i by omega, up_s]
  · cases mk with
    | some k =>
      have hk := (w2 k rfl).1
      exact absurd (nI_pos' (by omega)) h1
    | none =>
      exact gg_vret (pc := 7) C dX0_moveHome_7 ⟨none, hI0, rfl, fun hx m n hm hn => by simp at hm⟩
end
section
/-! WALKS of the store's calls: snapshot, settle, idle, restart, crash -/
theorem un_no {a b : Int32} (h : ∀ q, q < 3 → nI q = a ∨ nI q = b) : False := by
  rcases h 0 (by omega) with x | x <;> rcases h 1 (by omega) with y | y <;> rcases h 2 (by omega) with z | z <;> first | exact absurd (x.trans y.symm) (by decide) | exact absurd (x.trans z.symm) (by decide) | exact absurd (y.trans z.symm) (by decide)
theorem oI_ne {o : Option Nat} {q : Nat} (h : nI q ≠ oI o) : o ≠ some q := fun z => h (by rw [z]; rfl)
/-- snapshot's loop: the changed frames are frozen -/
def p_fz : Nat → ckS → ckS
  | 0, σ => σ
  | i + 1, σ => ckUp (p_fz i σ) 12 (upd (p_fz i σ 12) i (p_fz i σ 11 i))
theorem p_fz_k (σ : ckS) : ∀ (i k : Nat), k ≠ 12 → p_fz i σ k = σ k := by
  intro i
  induction i with
  | zero => intro k _; rfl
  | succ i ih => intro k hk; rw [p_fz, kUp_n hk]; exact ih k hk
theorem p_fz_12 (σ : ckS) : ∀ (i j : Nat), j < i → p_fz i σ 12 j = σ 11 j := by
  intro i
  induction i with
  | zero => intro j h; omega
  | succ i ih =>
    intro j h
    rw [p_fz, kUp_s]
    by_cases q : j = i
    · rw [q, up_s, p_fz_k σ i 11 (by omega)]
    · rw [up_n q]; exact ih j (by omega)
/-- restart's loop: the frames are empty -/
def p_rt : Nat → ckS → ckS
  | 0, σ => σ
  | i + 1, σ => ckUp (ckUp (ckUp (p_rt i σ) 10 (upd (p_rt i σ 10) i (-1))) 11 (upd (p_rt i σ 11) i 0)) 12 (upd (p_rt i σ 12) i 0)
theorem p_rt_k (σ : ckS) : ∀ (i k : Nat), k ≠ 10 → k ≠ 11 → k ≠ 12 → p_rt i σ k = σ k := by
  intro i
  induction i with
  | zero => intro k _ _ _; rfl
  | succ i ih => intro k h1 h2 h3; rw [p_rt, kUp_n h3, kUp_n h2, kUp_n h1]; exact ih k h1 h2 h3
theorem p_rt_f (σ : ckS) : ∀ (i j : Nat), j < i → p_rt i σ 10 j = -1 ∧ p_rt i σ 11 j = 0 ∧ p_rt i σ 12 j = 0 := by
  intro i
  induction i with
  | zero => intro j h; omega
  | succ i ih =>
    intro j h
    rw [p_rt]
    rw [kUp_n (show (10 : Nat) ≠ 12 by omega), kUp_n (show (10 : Nat) ≠ 11 by omega), kUp_s, kUp_n (show (11 : Nat) ≠ 12 by omega), kUp_s, kUp_s]
    by_cases q : j = i
    · rw [q, up_s, up_s, up_s]; exact ⟨rfl, rfl, rfl⟩
    · rw [up_n q, up_n q, up_n q]; exact ih j (by omega)
/-- a log is cleared: what a new present log needs -/
theorem clr_facts (σ : ckS) (q : Nat) (hb : ∀ e, e < 48 → σ 8 e = 0 ∨ σ 8 e = 1) : (∀ n, n < 16 → p_clr q 16 σ 8 (16 * q + n) = 0) ∧ (∀ m n, m < 3 → n < 16 → m ≠ q → p_clr q 16 σ 8 (16 * m + n) = σ 8 (16 * m + n)) ∧ (∀ e, e < 48 → p_clr q 16 σ 8 e = 0 ∨ p_clr q 16 σ 8 e = 1) := by
  refine ⟨fun n hn => ?_, fun m n hm hn hq => ?_, fun e he => ?_⟩
  · rw [p_clr_8, if_pos (by omega)]
  · rw [p_clr_8, if_neg (by omega)]
  · rw [p_clr_8]
    split
    · exact Or.inl rfl
    · exact hb e he
theorem inv_snap {σ : ckS} {mk op : Option Nat} {pl : Nat} {P O S : Nat → ckR} (h : ckInv σ mk op pl P O S) (ho : op = none) {q : Nat} (hq : q < 3) (h1 : nI q ≠ σ 9 0) (h2 : nI q ≠ nI pl) : ckInv (p_clr q 16 (ckUp (ckUp (p_fz 5 σ) 18 (fun _ => nI pl)) 19 (fun _ => nI q))) mk (some pl) q P P S := by
  obtain ⟨s1, s2, s3, s4, w, r⟩ := h
  generalize hτ : ckUp (ckUp (p_fz 5 σ) 18 (fun _ => nI pl)) 19 (fun _ => nI q) = τ
  have kτ : ∀ k, k ≠ 12 → k ≠ 18 → k ≠ 19 → τ k = σ k := fun k a b c => by rw [← hτ, kUp_n c, kUp_n b, p_fz_k σ 5 k a]
  have k12 : τ 12 = p_fz 5 σ 12 := by rw [← hτ, kUp_n (by omega), kUp_n (by omega)]
  have kk : ∀ k, k ≠ 8 → p_clr q 16 τ k = τ k := fun k a => p_clr_k q τ 16 k a
  have e8 := kτ 8 (by omega) (by omega) (by omega)
  obtain ⟨c1, c2, c3⟩ := clr_facts τ q (by rw [e8]; exact w.2.2.2.2.2.2.2.2.2.2)
  rw [e8] at c2
  rw [s1] at h1
  obtain ⟨w1, r1⟩ := iv_snap w r ho hq (fun z => h2 (by rw [z])) (oI_ne h1) (FZ1 := p_fz 5 σ 12) (fun f hf => p_fz_12 σ 5 f hf) c1 c2 c3
  refine inv_mk w1 r1 rfl (ck_lgk fun j a b => by rw [kk j (by omega)]; exact kτ j (by omega) (by omega) (by omega)) (ck_hmk fun j a => by rw [kk j (by omega)]; exact kτ j (by omega) (by omega) (by omega)) (ck_frk fun j a b => by rw [kk j (by omega)]; exact kτ j (by omega) (by omega) (by omega)) ((kk 10 (by omega)).trans (kτ 10 (by omega) (by omega) (by omega))) ((kk 11 (by omega)).trans (kτ 11 (by omega) (by omega) (by omega))) ((kk 12 (by omega)).trans k12) (by rw [kk 9 (by omega), kτ 9 (by omega) (by omega) (by omega)]; exact s1) ?_ ?_ (by rw [kk 17 (by omega), kτ 17 (by omega) (by omega) (by omega)]; exact s4)
  · rw [kk 18 (by omega), ← hτ]; rfl
  · rw [kk 19 (by omega), ← hτ]; rfl
theorem inv_settle {σ : ckS} {mk op : Option Nat} {pl : Nat} {P O S : Nat → ckR} (h : ckInv σ mk op pl P O S) {o : Nat} (ho : op = some o) (hF : ∀ f, f < 5 → σ 12 f = 0) (hL : ∀ m n, mk = some m → n < 16 → σ 8 (16 * m + n) = 0) (O1 : Nat → ckR) : ckInv (ckUp (ckUp σ 9 (fun _ => nI o)) 18 (fun _ => -1)) (some o) none pl P O1 O := by
  obtain ⟨s1, s2, s3, s4, w, r⟩ := h
  obtain ⟨w1, r1⟩ := iv_settle w r ho hF hL O1
  exact ⟨rfl, rfl, s3, s4, w1, r1⟩
theorem inv_restart {σ : ckS} {mk : Option Nat} {S : Nat → ckR} (s1 : σ 9 0 = oI mk) (hm : ∀ m, mk = some m → m < 3) (hS : ∀ n, n < 16 → ckSt (σ 8) (ckLg σ) (ckHm σ) mk n = S n) (hb : ∀ e, e < 48 → σ 8 e = 0 ∨ σ 8 e = 1) {q : Nat} (hq : q < 3) (h1 : nI q ≠ σ 9 0) (O1 : Nat → ckR) : ckInv (p_clr q 16 (ckUp (ckUp (ckUp (p_rt 5 σ) 17 (fun _ => 0)) 18 (fun _ => -1)) 19 (fun _ => nI q))) mk none q S O1 S := by
  generalize hτ : ckUp (ckUp (ckUp (p_rt 5 σ) 17 (fun _ => 0)) 18 (fun _ => -1)) 19 (fun _ => nI q) = τ
  have kτ : ∀ k, k < 10 ∨ 13 ≤ k → k ≠ 17 → k ≠ 18 → k ≠ 19 → τ k = σ k := fun k a b c d => by rw [← hτ, kUp_n d, kUp_n c, kUp_n b, p_rt_k σ 5 k (by omega) (by omega) (by omega)]
  have kr : ∀ k, k ≠ 17 → k ≠ 18 → k ≠ 19 → τ k = p_rt 5 σ k := fun k b c d => by rw [← hτ, kUp_n d, kUp_n c, kUp_n b]
  have kk : ∀ k, k ≠ 8 → p_clr q 16 τ k = τ k := fun k a => p_clr_k q τ 16 k a
  have e8 := kτ 8 (by omega) (by omega) (by omega) (by omega)
  obtain ⟨c1, c2, c3⟩ := clr_facts τ q (by rw [e8]; exact hb)
  rw [e8] at c2
  have h1' := h1
  rw [s1] at h1'
  obtain ⟨w1, r1⟩ := iv_restart (fr := ckFr σ) hm hS hq (oI_ne h1') (L1 := p_clr q 16 τ 8) (ND := p_rt 5 σ 10) (DY := p_rt 5 σ 11) (FZ := p_rt 5 σ 12) (fun f hf => (p_rt_f σ 5 f hf).1) (fun f hf => (p_rt_f σ 5 f hf).2.1) (fun f hf => (p_rt_f σ 5 f hf).2.2) c1 c2 c3 O1
  refine inv_mk w1 r1 rfl (ck_lgk fun j a b => by rw [kk j (by omega)]; exact kτ j (by omega) (by omega) (by omega) (by omega)) (ck_hmk fun j a => by rw [kk j (by omega)]; exact kτ j (by omega) (by omega) (by omega) (by omega)) (ck_frk fun j a b => by rw [kk j (by omega)]; exact kτ j (by omega) (by omega) (by omega) (by omega)) ((kk 10 (by omega)).trans (kr 10 (by omega) (by omega) (by omega))) ((kk 11 (by omega)).trans (kr 11 (by omega) (by omega) (by omega))) ((kk 12 (by omega)).trans (kr 12 (by omega) (by omega) (by omega))) (by rw [kk 9 (by omega), kτ 9 (by omega) (by omega) (by omega) (by omega)]; exact s1) ?_ ?_ ⟨0, by omega, ?_⟩
  · rw [kk 18 (by omega), ← hτ]; rfl
  · rw [kk 19 (by omega), ← hτ]; rfl
  · rw [kk 17 (by omega), ← hτ]; rfl
set_option maxRecDepth 100000 in
set_option maxHeartbeats 4000000 in
/-- snapshot() -/
theorem tS_snapshot (l : Launch) (D : va_G) (h0 : Nat) (ad : Nat → Nat) (cI cZ : ClassId) (σ : ckS) {mk op : Option Nat} {pl : Nat} {P O Sv : Nat → ckR} (hI : ckInv σ mk op pl P O Sv) : ckI l yX0_snapshot cX0_snapshot 2 (some .int) (rmD 1) D (csW h0 ad cI cZ) cI cZ [.ref h0] σ (fun r σ1 => (r = -1 ∧ op ≠ none ∧ ckInv σ1 mk op pl P O Sv) ∨ (op = none ∧ r = 0 ∧ ∃ q, ckInv σ1 mk (some pl) q P P Sv)) := by
  refine gg_inI (by decide) (by simp [Value.category]) (Nat.le_of_ble_eq_true rfl) ?_
  intro p e s m args below meth c A C hK
  have S := csS (h0 := h0) (ad := ad) hK
  refine gg_lv (lv1 := [some (.ref h0), none]) rfl ?_
  have hI0 := hI
  obtain ⟨s1, s2, s3, s4, ⟨w1, w2, w3, w4, w5, w6, w7, w8, w9, w10, w11⟩, r⟩ := hI
  refine gg_aload_n (pc := 0) C dX0_snapshot_0 rfl rfl ?_
  refine gg_getI (pc := 1) C S 18 (by decide) rfl q59 dX0_snapshot_1 ?_
  refine gg_top s2 ?_
  refine gg_if_lt (pc := 4) C 9 dX0_snapshot_4 (by decide) (fun h1 => ?_) (fun h1 => ?_)
  · have ho := (oI_lt op (fun o h => (w3 o h).1)).mp h1
    refine gg_iconst (pc := 9) (v := nI 0) C dX0_snapshot_9 (by decide) ?_
    refine gg_istore_n (pc := 10) C dX0_snapshot_10 rfl (by decide) rfl ?_
    refine gg_loop (F := GG p l e (rmD 1) s m args below meth c _ D _ A 2 0 0) 11 [] (fun i => [some (.ref h0), some (.int (nI i))]) (fun i => p_fz i σ) 5 (fun i hi ih => ?_)
    refine gg_iload_n (pc := 11) C dX0_snapshot_11 rfl rfl ?_
    refine gg_iconst (pc := 12) (v := nI 5) C dX0_snapshot_12 (by decide) ?_
    refine gg_icmp_geN (pc := 13) C 34 dX0_snapshot_13 (by decide) (by omega) (by omega) (fun h => ?_) (fun h => ?_)
    · obtain rfl : i = 5 := by omega
      refine gg_aload_n (pc := 34) C dX0_snapshot_34 rfl rfl ?_
      refine gg_aload_n (pc := 35) C dX0_snapshot_35 rfl rfl ?_
      refine gg_getI (pc := 36) C S 19 (by decide) rfl q60 dX0_snapshot_36 ?_
      refine gg_top (y := nI pl) (by rw [p_fz_k σ 5 19 (by omega)]; exact s3) ?_
      refine gg_putI (pc := 39) C S 18 (by decide) rfl q59 rfl rfl rfl dX0_snapshot_39 ?_
      refine gg_aload_n (pc := 42) C dX0_snapshot_42 rfl rfl ?_
      refine gg_aload_n (pc := 43) C dX0_snapshot_43 rfl rfl ?_
      refine gg_callI (pc := 44) C S (n := 0) [] (tS_unusedLog l D h0 ad cI cZ (ckUp (p_fz 5 σ) 18 (fun _ => nI pl))) (lw_V q33 q35 qs1 q19 q36) (by decide +kernel) ⟨by decide, by decide⟩ rfl rfl rfl rfl (Nat.le_of_ble_eq_true rfl) dX0_snapshot_44 ⟨by decide, by decide⟩ (fun r σ1 h => ?_)
      obtain ⟨rfl, h⟩ := h
      have g9 : ckUp (p_fz 5 σ) 18 (fun _ => nI pl) 9 0 = σ 9 0 := by rw [kUp_n (by omega), p_fz_k σ 5 9 (by omega)]
      have g18 : ckUp (p_fz 5 σ) 18 (fun _ => nI pl) 18 0 = nI pl := by rw [kUp_s]
      rw [g9, g18] at h
      rcases h with ⟨q, hq, rfl, q1, q2⟩ | h
      · refine gg_putI (pc := 47) C S 19 (by decide) rfl q60 rfl rfl rfl dX0_snapshot_47 ?_
        refine gg_aload_n (pc := 50) C dX0_snapshot_50 rfl rfl ?_
        refine gg_aload_n (pc := 51) C dX0_snapshot_51 rfl rfl ?_
        refine gg_getI (pc := 52) C S 19 (by decide) rfl q60 dX0_snapshot_52 ?_
        refine gg_top (y := nI q) rfl ?_
        refine gg_callV (pc := 55) C S (n := 1) [.int (nI q)] (tS_clearLog l D h0 ad cI cZ (ckUp (ckUp (p_fz 5 σ) 18 (fun _ => nI pl)) 19 (fun _ => nI q)) hq) (lw_V q37 q39 qs2 q19 q40) (by decide +kernel) ⟨by decide, by decide⟩ rfl rfl rfl rfl (Nat.le_of_ble_eq_true rfl) dX0_snapshot_55 ⟨by decide, by decide⟩ (fun σ2 h => ?_)
        subst h
        refine gg_iconst (pc := 58) (v := nI 0) C dX0_snapshot_58 (by decide) ?_
        exact gg_iret (pc := 59) C dX0_snapshot_59 (Or.inr ⟨ho, rfl, q, inv_snap hI0 ho hq q1 q2⟩)
      · exact absurd h (fun z => un_no z)
    · have hz : vp_nar .boolean (p_fz i σ 11 i) = p_fz i σ 11 i := by
        rw [p_fz_k σ i 11 (by omega)]
        rcases w6 i (by omega) with z | z <;> rw [z] <;> decide
      refine gg_aload_n (pc := 16) C dX0_snapshot_16 rfl rfl ?_
      refine gg_getA (pc := 17) C S 12 (by decide) (Or.inr rfl) q53 dX0_snapshot_17 ?_
      refine gg_iload_n (pc := 20) C dX0_snapshot_20 rfl rfl ?_
      refine gg_aload_n (pc := 21) C dX0_snapshot_21 rfl rfl ?_
      refine gg_getA (pc := 22) C S 11 (by decide) (Or.inr rfl) q52 dX0_snapshot_22 ?_
      refine gg_iload_n (pc := 25) C dX0_snapshot_25 rfl rfl ?_
      refine gg_zald (pc := 26) C S 5 rfl rfl (by omega) (by decide) dX0_snapshot_26 ?_
      refine gg_zast (pc := 27) C S 5 rfl rfl (by omega) (by decide) hz dX0_snapshot_27 ?_
      refine gg_iincN (pc := 28) C dX0_snapshot_28 rfl (by decide) rfl ?_
      refine gg_goto (pc := 31) C 11 dX0_snapshot_31 (by decide) ?_
      exact ih h
  · refine gg_iconst (pc := 7) (v := -1) C dX0_snapshot_7 (by decide) ?_
    exact gg_iret (pc := 8) C dX0_snapshot_8 (Or.inl ⟨rfl, fun z => h1 ((oI_lt op (fun o h => (w3 o h).1)).mpr z), hI0⟩)
set_option maxRecDepth 100000 in
set_option maxHeartbeats 4000000 in
/-- settle() -/
theorem tS_settle (l : Launch) (D : va_G) (h0 : Nat) (ad : Nat → Nat) (cI cZ : ClassId) (σ : ckS) {mk op : Option Nat} {pl : Nat} {P O Sv : Nat → ckR} (hI : ckInv σ mk op pl P O Sv) : ckI l yX0_settle cX0_settle 2 (some .int) (rmD 2) D (csW h0 ad cI cZ) cI cZ [.ref h0] σ (fun r σ1 => (r = -1 ∧ op = none ∧ ckInv σ1 mk op pl P O Sv) ∨ (op ≠ none ∧ r = 0 ∧ ckInv σ1 op none pl P O O)) := by
  refine gg_inI (by decide) (by simp [Value.category]) (Nat.le_of_ble_eq_true rfl) ?_
  intro p e s m args below meth c A C hK
  have S := csS (h0 := h0) (ad := ad) hK
  refine gg_lv (lv1 := [some (.ref h0), none]) rfl ?_
  have hI0 := hI
  obtain ⟨s1, s2, s3, s4, ⟨w1, w2, w3, w4, w5, w6, w7, w8, w9, w10, w11⟩, r⟩ := hI
  refine gg_aload_n (pc := 0) C dX0_settle_0 rfl rfl ?_
  refine gg_getI (pc := 1) C S 18 (by decide) rfl q59 dX0_settle_1 ?_
  refine gg_top s2 ?_
  refine gg_if_ge (pc := 4) C 9 dX0_settle_4 (by decide) (fun h1 => ?_) (fun h1 => ?_)
  · cases op with
    | none => exact absurd h1 (by decide)
    | some o =>
      refine gg_iconst (pc := 9) (v := nI 0) C dX0_settle_9 (by decide) ?_
      refine gg_istore_n (pc := 10) C dX0_settle_10 rfl (by decide) rfl ?_
      refine gg_loopX (F := GG p l e (rmD 2) s m args below meth c _ D _ A 2 0 0) 11 [] (fun i (_ : ckS) => [some (.ref h0), some (.int (nI i))]) (fun X => X) (fun i X => ckInv X mk (some o) pl P O Sv ∧ ∀ g, g < i → X 12 g = 0) 5 (fun i σ1 hi hX ih => ?_) σ 0 (by omega) ⟨hI0, fun g hg => absurd hg (by omega)⟩
      obtain ⟨i1, hz⟩ := hX
      refine gg_iload_n (pc := 11) C dX0_settle_11 rfl rfl ?_
      refine gg_iconst (pc := 12) (v := nI 5) C dX0_settle_12 (by decide) ?_
      refine gg_icmp_geN (pc := 13) C 36 dX0_settle_13 (by decide) (by omega) (by omega) (fun h => ?_) (fun h => ?_)
      · refine gg_aload_n (pc := 36) C dX0_settle_36 rfl rfl ?_
        refine gg_bipush (pc := 37) (v := nI 16) C dX0_settle_37 (by decide) ?_
        refine gg_callV (pc := 39) C S (n := 1) [.int (nI 16)] (tS_moveHome l D h0 ad cI cZ σ1 i1 (nI 16)) (lw_V q191 q193 qs15 q19 q194) (by decide +kernel) ⟨by decide, by decide⟩ rfl rfl rfl rfl (Nat.le_of_ble_eq_true rfl) dX0_settle_39 ⟨by decide, by decide⟩ (fun σ2 h2 => ?_)
        obtain ⟨mk1, i2, e12, hcl⟩ := h2
        refine gg_aload_n (pc := 42) C dX0_settle_42 rfl rfl ?_
        refine gg_aload_n (pc := 43) C dX0_settle_43 rfl rfl ?_
        refine gg_getI (pc := 44) C S 18 (by decide) rfl q59 dX0_settle_44 ?_
        refine gg_top (y := nI o) i2.2.1 ?_
        refine gg_putI (pc := 47) C S 9 (by decide) rfl q50 rfl rfl rfl dX0_settle_47 ?_
        refine gg_aload_n (pc := 50) C dX0_settle_50 rfl rfl ?_
        refine gg_iconst (pc := 51) (v := -1) C dX0_settle_51 (by decide) ?_
        refine gg_putI (pc := 52) C S 18 (by decide) rfl q59 rfl rfl rfl dX0_settle_52 ?_
        refine gg_iconst (pc := 55) (v := nI 0) C dX0_settle_55 (by decide) ?_
        have hcl := hcl (Int32.le_refl _)
        exact gg_iret (pc := 56) C dX0_settle_56 (Or.inr ⟨by simp, rfl, inv_settle i2 rfl (fun f hf => by rw [e12]; exact hz f (by omega)) hcl O⟩)
      · have tl : ∀ σ2 : ckS, ckInv σ2 mk (some o) pl P O Sv → (∀ g, g < i + 1 → σ2 12 g = 0) → GG p l e (rmD 2) s m args below meth c (MQ below (va_Qi (fun r σ1 => (r = -1 ∧ some o = none ∧ ckInv σ1 mk (some o) pl P O Sv) ∨ (some o ≠ none ∧ r = 0 ∧ ckInv σ1 (some o) none pl P O O)) (ckB D (csW h0 ad cI cZ) A) A) args s 0 0 A) D (csW h0 ad cI cZ) A 2 0 0 30 [some (.ref h0), some (.int (nI i))] [] σ2 := by
          intro σ2 i2 z2
          refine gg_iincN (pc := 30) C dX0_settle_30 rfl (by decide) rfl ?_
          refine gg_goto (pc := 33) C 11 dX0_settle_33 (by decide) ?_
          exact ih σ2 h ⟨i2, z2⟩
        refine gg_aload_n (pc := 16) C dX0_settle_16 rfl rfl ?_
        refine gg_getA (pc := 17) C S 12 (by decide) (Or.inr rfl) q53 dX0_settle_17 ?_
        refine gg_iload_n (pc := 20) C dX0_settle_20 rfl rfl ?_
        refine gg_zald (pc := 21) C S 5 rfl rfl (by omega) (by decide) dX0_settle_21 ?_
        refine gg_if_eq (pc := 22) C 30 dX0_settle_22 (by decide) (fun h2 => ?_) (fun h2 => ?_)
        · exact tl σ1 i1 (fun g hg => by
            rcases Nat.lt_or_ge g i with z | z
            · exact hz g z
            · rw [show g = i by omega]; exact h2)
        · have h4 : σ1 12 i = 1 := by
            rcases i1.2.2.2.2.1.2.2.2.2.2.2.1 i h with y | y
            · exact absurd y h2
            · exact y
          refine gg_aload_n (pc := 25) C dX0_settle_25 rfl rfl ?_
          refine gg_iload_n (pc := 26) C dX0_settle_26 rfl rfl ?_
          refine gg_callV (pc := 27) C S (n := 1) [.int (nI i)] (tS_saveFrozen l D h0 ad cI cZ σ1 i1 h h4) (lw_V q123 q125 qs6 q19 q126) (by decide +kernel) ⟨by decide, by decide⟩ rfl rfl rfl rfl (Nat.le_of_ble_eq_true rfl) dX0_settle_27 ⟨by decide, by decide⟩ (fun σ2 e1 => ?_)
          obtain ⟨i2, e10, e11, e12⟩ := e1
          exact tl σ2 i2 (fun g hg => by
            rw [e12]
            rcases Nat.lt_or_ge g i with z | z
            · rw [up_n (by omega)]; exact hz g z
            · rw [show g = i by omega, up_s])
  · cases op with
    | some o =>
      have ho := (w3 o rfl).1
      exact absurd (nI_pos' (by omega)) h1
    | none =>
      refine gg_iconst (pc := 7) (v := -1) C dX0_settle_7 (by decide) ?_
      exact gg_iret (pc := 8) C dX0_settle_8 (Or.inl ⟨rfl, rfl, hI0⟩)
set_option maxRecDepth 100000 in
set_option maxHeartbeats 4000000 in
/-- idle(turns) -/
theorem tS_idle (l : Launch) (D : va_G) (h0 : Nat) (ad : Nat → Nat) (cI cZ : ClassId) (σ : ckS) {mk op : Option Nat} {pl : Nat} {P O Sv : Nat → ckR} (hI : ckInv σ mk op pl P O Sv) (x : Int32) : ckV l yX0_idle cX0_idle 3 (rmD 2) D (csW h0 ad cI cZ) cI cZ [.ref h0, .int x] σ (fun σ1 => ∃ mk1, ckInv σ1 mk1 op pl P O Sv) := by
  refine gg_inV (by decide) (by simp [Value.category]) (Nat.le_of_ble_eq_true rfl) ?_
  intro p e s m args below meth c A C hK
  have S := csS (h0 := h0) (ad := ad) hK
  refine gg_lv (lv1 := [some (.ref h0), some (.int x), none]) rfl ?_
  refine gg_iconst (pc := 0) (v := nI 0) C dX0_idle_0 (by decide) ?_
  refine gg_istore_n (pc := 1) C dX0_idle_1 rfl (by decide) rfl ?_
  refine gg_loopX (F := GG p l e (rmD 2) s m args below meth c _ D _ A 3 0 0) 2 [] (fun i (_ : ckS) => [some (.ref h0), some (.int x), some (.int (nI i))]) (fun X => X) (fun i X => ckInv X mk op pl P O Sv) 5 (fun i σ1 hi i1 ih => ?_) σ 0 (by omega) hI
  have xit : GG p l e (rmD 2) s m args below meth c (MQ below (va_Qv (fun σ1 => ∃ mk1, ckInv σ1 mk1 op pl P O Sv) (ckB D (csW h0 ad cI cZ) A) A) args s 0 0 A) D (csW h0 ad cI cZ) A 3 0 0 32 [some (.ref h0), some (.int x), some (.int (nI i))] [] σ1 := by
    refine gg_aload_n (pc := 32) C dX0_idle_32 rfl rfl ?_
    refine gg_iload_n (pc := 33) C dX0_idle_33 rfl rfl ?_
    refine gg_callV (pc := 34) C S (n := 1) [.int x] (tS_moveHome l D h0 ad cI cZ σ1 i1 x) (lw_V q191 q193 qs15 q19 q194) (by decide +kernel) ⟨by decide, by decide⟩ rfl rfl rfl rfl (Nat.le_of_ble_eq_true rfl) dX0_idle_34 ⟨by decide, by decide⟩ (fun σ2 h2 => ?_)
    obtain ⟨mk1, i2, _, _⟩ := h2
    exact gg_vret (pc := 37) C dX0_idle_37 ⟨mk1, i2⟩
  refine gg_iload_n (pc := 2) C dX0_idle_2 rfl rfl ?_
  refine gg_iconst (pc := 3) (v := nI 5) C dX0_idle_3 (by decide) ?_
  refine gg_icmp_geN (pc := 4) C 32 dX0_idle_4 (by decide) (by omega) (by omega) (fun h => ?_) (fun h => ?_)
  · exact xit
  · refine gg_iload_n (pc := 7) C dX0_idle_7 rfl rfl ?_
    refine gg_iload_n (pc := 8) C dX0_idle_8 rfl rfl ?_
    refine gg_icmp_ge (pc := 9) C 32 dX0_idle_9 (by decide) (fun h1 => ?_) (fun h1 => ?_)
    · exact xit
    · have tl : ∀ σ2 : ckS, ckInv σ2 mk op pl P O Sv → GG p l e (rmD 2) s m args below meth c (MQ below (va_Qv (fun σ1 => ∃ mk1, ckInv σ1 mk1 op pl P O Sv) (ckB D (csW h0 ad cI cZ) A) A) args s 0 0 A) D (csW h0 ad cI cZ) A 3 0 0 26 [some (.ref h0), some (.int x), some (.int (nI i))] [] σ2 := by
        intro σ2 i2
        refine gg_iincN (pc := 26) C dX0_idle_26 rfl (by decide) rfl ?_
        refine gg_goto (pc := 29) C 2 dX0_idle_29 (by decide) ?_
        exact ih σ2 h i2
      refine gg_aload_n (pc := 12) C dX0_idle_12 rfl rfl ?_
      refine gg_getA (pc := 13) C S 12 (by decide) (Or.inr rfl) q53 dX0_idle_13 ?_
      refine gg_iload_n (pc := 16) C dX0_idle_16 rfl rfl ?_
      refine gg_zald (pc := 17) C S 5 rfl rfl (by omega) (by decide) dX0_idle_17 ?_
      refine gg_if_eq (pc := 18) C 26 dX0_idle_18 (by decide) (fun h2 => ?_) (fun h2 => ?_)
      · exact tl σ1 i1
      · have h4 : σ1 12 i = 1 := by
          rcases i1.2.2.2.2.1.2.2.2.2.2.2.1 i h with y | y
          · exact absurd y h2
          · exact y
        refine gg_aload_n (pc := 21) C dX0_idle_21 rfl rfl ?_
        refine gg_iload_n (pc := 22) C dX0_idle_22 rfl rfl ?_
        refine gg_callV (pc := 23) C S (n := 1) [.int (nI i)] (tS_saveFrozen l D h0 ad cI cZ σ1 i1 h h4) (lw_V q123 q125 qs6 q19 q126) (by decide +kernel) ⟨by decide, by decide⟩ rfl rfl rfl rfl (Nat.le_of_ble_eq_true rfl) dX0_idle_23 ⟨by decide, by decide⟩ (fun σ2 e1 => ?_)
        exact tl σ2 e1.1
set_option maxRecDepth 100000 in
set_option maxHeartbeats 4000000 in
/-- restart(): from what is on disk -/
theorem tS_restart (l : Launch) (D : va_G) (h0 : Nat) (ad : Nat → Nat) (cI cZ : ClassId) (σ : ckS) {mk : Option Nat} {Sv : Nat → ckR} (s1 : σ 9 0 = oI mk) (hm : ∀ m, mk = some m → m < 3) (hS : ∀ n, n < 16 → ckSt (σ 8) (ckLg σ) (ckHm σ) mk n = Sv n) (hb : ∀ e, e < 48 → σ 8 e = 0 ∨ σ 8 e = 1) (O1 : Nat → ckR) : ckV l yX0_restart cX0_restart 2 (rmD 1) D (csW h0 ad cI cZ) cI cZ [.ref h0] σ (fun σ1 => ∃ q, ckInv σ1 mk none q Sv O1 Sv) := by
  refine gg_inV (by decide) (by simp [Value.category]) (Nat.le_of_ble_eq_true rfl) ?_
  intro p e s m args below meth c A C hK
  have S := csS (h0 := h0) (ad := ad) hK
  refine gg_lv (lv1 := [some (.ref h0), none]) rfl ?_
  refine gg_iconst (pc := 0) (v := nI 0) C dX0_restart_0 (by decide) ?_
  refine gg_istore_n (pc := 1) C dX0_restart_1 rfl (by decide) rfl ?_
  refine gg_loop (F := GG p l e (rmD 1) s m args below meth c _ D _ A 2 0 0) 2 [] (fun i => [some (.ref h0), some (.int (nI i))]) (fun i => p_rt i σ) 5 (fun i hi ih => ?_)
  refine gg_iload_n (pc := 2) C dX0_restart_2 rfl rfl ?_
  refine gg_iconst (pc := 3) (v := nI 5) C dX0_restart_3 (by decide) ?_
  refine gg_icmp_geN (pc := 4) C 34 dX0_restart_4 (by decide) (by omega) (by omega) (fun h => ?_) (fun h => ?_)
  · obtain rfl : i = 5 := by omega
    refine gg_aload_n (pc := 34) C dX0_restart_34 rfl rfl ?_
    refine gg_iconst (pc := 35) (v := nI 0) C dX0_restart_35 (by decide) ?_
    refine gg_putI (pc := 36) C S 17 (by decide) rfl q58 rfl rfl rfl dX0_restart_36 ?_
    refine gg_aload_n (pc := 39) C dX0_restart_39 rfl rfl ?_
    refine gg_iconst (pc := 40) (v := -1) C dX0_restart_40 (by decide) ?_
    refine gg_putI (pc := 41) C S 18 (by decide) rfl q59 rfl rfl rfl dX0_restart_41 ?_
    refine gg_aload_n (pc := 44) C dX0_restart_44 rfl rfl ?_
    refine gg_aload_n (pc := 45) C dX0_restart_45 rfl rfl ?_
    refine gg_callI (pc := 46) C S (n := 0) [] (tS_unusedLog l D h0 ad cI cZ (ckUp (ckUp (p_rt 5 σ) 17 (fun _ => nI 0)) 18 (fun _ => -1))) (lw_V q33 q35 qs1 q19 q36) (by decide +kernel) ⟨by decide, by decide⟩ rfl rfl rfl rfl (Nat.le_of_ble_eq_true rfl) dX0_restart_46 ⟨by decide, by decide⟩ (fun r σ1 h => ?_)
    obtain ⟨rfl, h⟩ := h
    have g9 : ckUp (ckUp (p_rt 5 σ) 17 (fun _ => nI 0)) 18 (fun _ => -1) 9 0 = σ 9 0 := by rw [kUp_n (by omega), kUp_n (by omega), p_rt_k σ 5 9 (by omega) (by omega) (by omega)]
    rw [g9] at h
    rcases h with ⟨q, hq, rfl, q1, q2⟩ | h
    · refine gg_putI (pc := 49) C S 19 (by decide) rfl q60 rfl rfl rfl dX0_restart_49 ?_
      refine gg_aload_n (pc := 52) C dX0_restart_52 rfl rfl ?_
      refine gg_aload_n (pc := 53) C dX0_restart_53 rfl rfl ?_
      refine gg_getI (pc := 54) C S 19 (by decide) rfl q60 dX0_restart_54 ?_
      refine gg_top (y := nI q) rfl ?_
      refine gg_callV (pc := 57) C S (n := 1) [.int (nI q)] (tS_clearLog l D h0 ad cI cZ (ckUp (ckUp (ckUp (p_rt 5 σ) 17 (fun _ => nI 0)) 18 (fun _ => -1)) 19 (fun _ => nI q)) hq) (lw_V q37 q39 qs2 q19 q40) (by decide +kernel) ⟨by decide, by decide⟩ rfl rfl rfl rfl (Nat.le_of_ble_eq_true rfl) dX0_restart_57 ⟨by decide, by decide⟩ (fun σ2 h => ?_)
      subst h
      exact gg_vret (pc := 60) C dX0_restart_60 ⟨q, inv_restart s1 hm hS hb hq q1 O1⟩
    · exact absurd h (fun z => un_no z)
  · refine gg_aload_n (pc := 7) C dX0_restart_7 rfl rfl ?_
    refine gg_getA (pc := 8) C S 10 (by decide) (Or.inl rfl) q51 dX0_restart_8 ?_
    refine gg_iload_n (pc := 11) C dX0_restart_11 rfl rfl ?_
    refine gg_iconst (pc := 12) (v := -1) C dX0_restart_12 (by decide) ?_
    refine gg_iast (pc := 13) C S 5 rfl rfl (by omega) (by decide) dX0_restart_13 ?_
    refine gg_aload_n (pc := 14) C dX0_restart_14 rfl rfl ?_
    refine gg_getA (pc := 15) C S 11 (by decide) (Or.inr rfl) q52 dX0_restart_15 ?_
    refine gg_iload_n (pc := 18) C dX0_restart_18 rfl rfl ?_
    refine gg_iconst (pc := 19) (v := nI 0) C dX0_restart_19 (by decide) ?_
    refine gg_zast (pc := 20) C S 5 rfl rfl (by omega) (by decide) (by decide) dX0_restart_20 ?_
    refine gg_aload_n (pc := 21) C dX0_restart_21 rfl rfl ?_
    refine gg_getA (pc := 22) C S 12 (by decide) (Or.inr rfl) q53 dX0_restart_22 ?_
    refine gg_iload_n (pc := 25) C dX0_restart_25 rfl rfl ?_
    refine gg_iconst (pc := 26) (v := nI 0) C dX0_restart_26 (by decide) ?_
    refine gg_zast (pc := 27) C S 5 rfl rfl (by omega) (by decide) (by decide) dX0_restart_27 ?_
    refine gg_iincN (pc := 28) C dX0_restart_28 rfl (by decide) rfl ?_
    refine gg_goto (pc := 31) C 2 dX0_restart_31 (by decide) ?_
    exact ih h
set_option maxRecDepth 100000 in
set_option maxHeartbeats 4000000 in
/-- crash() -/
theorem tS_crash (l : Launch) (D : va_G) (h0 : Nat) (ad : Nat → Nat) (cI cZ : ClassId) (σ : ckS) {mk op : Option Nat} {pl : Nat} {P O Sv : Nat → ckR} (hI : ckInv σ mk op pl P O Sv) : ckV l yX0_crash cX0_crash 1 (rmD 2) D (csW h0 ad cI cZ) cI cZ [.ref h0] σ (fun σ1 => ∃ q, ckInv σ1 mk none q Sv O Sv) := by
  refine gg_inV (by decide) (by simp [Value.category]) (Nat.le_of_ble_eq_true rfl) ?_
  intro p e s m args below meth c A C hK
  have S := csS (h0 := h0) (ad := ad) hK
  refine gg_lv (lv1 := [some (.ref h0)]) rfl ?_
  have hI0 := hI
  obtain ⟨s1, s2, s3, s4, ⟨w1, w2, w3, w4, w5, w6, w7, w8, w9, w10, w11⟩, r⟩ := hI
  refine gg_aload_n (pc := 0) C dX0_crash_0 rfl rfl ?_
  refine gg_callV (pc := 1) C S (n := 0) [] (tS_restart l D h0 ad cI cZ σ s1 (fun m h => (w2 m h).1) r.1 w11 O) (lw_V q29 q31 qs0 q19 q32) (by decide +kernel) ⟨by decide, by decide⟩ rfl rfl rfl rfl (Nat.le_of_ble_eq_true rfl) dX0_crash_1 ⟨by decide, by decide⟩ (fun σ1 h => ?_)
  exact gg_vret (pc := 4) C dX0_crash_4 h
end
section
/-! WALKS of the model's methods -/
def pset (i : Nat) (k v : Int32) (σ : ckS) : ckS := ckUp (ckUp σ 0 (upd (σ 0) i k)) 1 (upd (σ 1) i v)
def Bit (f : Nat → Int32) : Prop := ∀ i, i < 64 → f i = 0 ∨ f i = 1
theorem Bit.nar {f : Nat → Int32} (h : Bit f) {i : Nat} (hi : i < 64) : vp_nar .boolean (f i) = f i := by
  rcases h i hi with z | z <;> rw [z] <;> decide
set_option maxRecDepth 100000 in
set_option maxHeartbeats 4000000 in
/-- badNode(node) -/
theorem tM_badNode (l : Launch) (x : Int32) : ckT l yX1_badNode cX1_badNode 1 (some .boolean) (rmD 0) [.int x] (fun r => (r = 0 ∧ ∃ n, n < 16 ∧ x = nI n) ∨ (r = 1 ∧ ¬ ∃ n, n < 16 ∧ x = nI n)) := by
  refine gg_inT (by decide) (by simp [Value.category]) (Nat.le_of_ble_eq_true rfl) ?_
  intro p e s m args below meth c A C
  refine gg_lv (lv1 := [some (.int x)]) rfl ?_
  have fl : (¬ ∃ n, n < 16 ∧ x = nI n) → GG p l e (rmD 0) s m args below meth c (MQ below (va_Qi (fun (r : Int32) (_ : ckS) => (r = 0 ∧ ∃ n, n < 16 ∧ x = nI n) ∨ (r = 1 ∧ ¬ ∃ n, n < 16 ∧ x = nI n)) (fun _ _ => True) A) args s 0 0 A) (fun _ => 0, fun _ _ => 0) (fun _ => []) A 1 0 0 10 [some (.int x)] [] (fun _ _ => 0) := by
    intro hno
    refine gg_iconst (pc := 10) (v := nI 1) C dX1_badNode_10 (by decide) ?_
    refine gg_goto (pc := 11) C 15 dX1_badNode_11 (by decide) ?_
    exact gg_zret (pc := 15) C (by decide) dX1_badNode_15 (Or.inr ⟨rfl, hno⟩)
  refine gg_iload_n (pc := 0) C dX1_badNode_0 rfl rfl ?_
  refine gg_if_lt (pc := 1) C 10 dX1_badNode_1 (by decide) (fun h1 => ?_) (fun h1 => ?_)
  · exact fl (fun ⟨n, hn, e1⟩ => absurd h1 (by rw [e1]; exact nI_pos (by omega)))
  · refine gg_iload_n (pc := 4) C dX1_badNode_4 rfl rfl ?_
    refine gg_bipush (pc := 5) (v := nI 15) C dX1_badNode_5 (by decide) ?_
    refine gg_icmp_le (pc := 7) C 14 dX1_badNode_7 (by decide) (fun h2 => ?_) (fun h2 => ?_)
    · obtain ⟨n, hn, rfl⟩ := nI_of2 (M := nI 15) (n := 15) (by decide) h1 h2
      refine gg_iconst (pc := 14) (v := nI 0) C dX1_badNode_14 (by decide) ?_
      exact gg_zret (pc := 15) C (by decide) dX1_badNode_15 (Or.inl ⟨rfl, n, by omega, rfl⟩)
    · exact fl (fun ⟨n, hn, e1⟩ => absurd (by rw [e1]; exact nI_le (by omega) (by omega)) h2)
set_option maxRecDepth 100000 in
set_option maxHeartbeats 4000000 in
/-- bad(node, slot) -/
theorem tM_bad (l : Launch) (x y : Int32) : ckT l yX1_bad cX1_bad 2 (some .boolean) (rmD 1) [.int x, .int y] (fun r => (r = 0 ∧ ∃ n s1, n < 16 ∧ s1 < 4 ∧ x = nI n ∧ y = nI s1) ∨ (r = 1 ∧ ¬ ∃ n s1, n < 16 ∧ s1 < 4 ∧ x = nI n ∧ y = nI s1)) := by
  refine gg_inT (by decide) (by simp [Value.category]) (Nat.le_of_ble_eq_true rfl) ?_
  intro p e s m args below meth c A C
  refine gg_lv (lv1 := [some (.int x), some (.int y)]) rfl ?_
  have fl : (¬ ∃ n s1, n < 16 ∧ s1 < 4 ∧ x = nI n ∧ y = nI s1) → GG p l e (rmD 1) s m args below meth c (MQ below (va_Qi (fun (r : Int32) (_ : ckS) => (r = 0 ∧ ∃ n s1, n < 16 ∧ s1 < 4 ∧ x = nI n ∧ y = nI s1) ∨ (r = 1 ∧ ¬ ∃ n s1, n < 16 ∧ s1 < 4 ∧ x = nI n ∧ y = nI s1)) (fun _ _ => True) A) args s 0 0 A) (fun _ => 0, fun _ _ => 0) (fun _ => []) A 2 0 0 16 [some (.int x), some (.int y)] [] (fun _ _ => 0) := by
    intro hno
    refine gg_iconst (pc := 16) (v := nI 1) C dX1_bad_16 (by decide) ?_
    refine gg_goto (pc := 17) C 21 dX1_bad_17 (by decide) ?_
    exact gg_zret (pc := 21) C (by decide) dX1_bad_21 (Or.inr ⟨rfl, hno⟩)
  refine gg_iload_n (pc := 0) C dX1_bad_0 rfl rfl ?_
  refine gg_callS (pc := 1) C (n := 1) [.int x] (tM_badNode l x) (lw_S q246 q247 q20 q248) (by decide +kernel) ⟨by decide, by decide⟩ rfl rfl rfl rfl (Nat.le_of_ble_eq_true rfl) dX1_bad_1 ⟨by decide, by decide⟩ (fun r h => ?_)
  refine gg_if_ne (pc := 4) C 16 dX1_bad_4 (by decide) (fun h1 => ?_) (fun h1 => ?_)
  · rcases h with ⟨rfl, _⟩ | ⟨rfl, hno⟩
    · exact absurd rfl h1
    · exact fl (fun ⟨n, s1, hn, hs, e1, e2⟩ => hno ⟨n, hn, e1⟩)
  · rcases h with ⟨rfl, n, hn, rfl⟩ | ⟨rfl, hno⟩
    · refine gg_iload_n (pc := 7) C dX1_bad_7 rfl rfl ?_
      refine gg_if_lt (pc := 8) C 16 dX1_bad_8 (by decide) (fun h2 => ?_) (fun h2 => ?_)
      · exact fl (fun ⟨n, s1, hn, hs, e1, e2⟩ => absurd h2 (by rw [e2]; exact nI_pos (by omega)))
      · refine gg_iload_n (pc := 11) C dX1_bad_11 rfl rfl ?_
        refine gg_iconst (pc := 12) (v := nI 3) C dX1_bad_12 (by decide) ?_
        refine gg_icmp_le (pc := 13) C 20 dX1_bad_13 (by decide) (fun h3 => ?_) (fun h3 => ?_)
        · obtain ⟨s1, hs, rfl⟩ := nI_of2 (M := nI 3) (n := 3) (by decide) h2 h3
          refine gg_iconst (pc := 20) (v := nI 0) C dX1_bad_20 (by decide) ?_
          exact gg_zret (pc := 21) C (by decide) dX1_bad_21 (Or.inl ⟨rfl, n, s1, hn, by omega, rfl, rfl⟩)
        · exact fl (fun ⟨n, s1, hn, hs, e1, e2⟩ => absurd (by rw [e2]; exact nI_le (by omega) (by omega)) h3)
    · exact absurd h1 (by decide)
set_option maxRecDepth 100000 in
set_option maxHeartbeats 4000000 in
/-- set(at, key, value) -/
theorem tM_set (l : Launch) (D : va_G) (h0 : Nat) (ad : Nat → Nat) (cI cZ : ClassId) (σ : ckS) {i : Nat} (hi : i < 64) {k : Int32} (hk : vp_nar .boolean k = k) (v : Int32) : ckV l yX1_set cX1_set 4 (rmD 0) D (cmW h0 ad cI cZ) cI cZ [.ref h0, .int (nI i), .int k, .int v] σ (fun σ1 => σ1 = pset i k v σ) := by
  refine gg_inV (by decide) (by simp [Value.category]) (Nat.le_of_ble_eq_true rfl) ?_
  intro p e s m args below meth c A C hK
  have S := cmS (h0 := h0) (ad := ad) hK
  refine gg_lv (lv1 := [some (.ref h0), some (.int (nI i)), some (.int k), some (.int v)]) rfl ?_
  refine gg_aload_n (pc := 0) C dX1_set_0 rfl rfl ?_
  refine gg_getA (pc := 1) C S 0 (by decide) (Or.inr rfl) q217 dX1_set_1 ?_
  refine gg_iload_n (pc := 4) C dX1_set_4 rfl rfl ?_
  refine gg_iload_n (pc := 5) C dX1_set_5 rfl rfl ?_
  refine gg_zast (pc := 6) C S 64 rfl rfl (by omega) (by decide) hk dX1_set_6 ?_
  refine gg_aload_n (pc := 7) C dX1_set_7 rfl rfl ?_
  refine gg_getA (pc := 8) C S 1 (by decide) (Or.inl rfl) q218 dX1_set_8 ?_
  refine gg_iload_n (pc := 11) C dX1_set_11 rfl rfl ?_
  refine gg_iload_n (pc := 12) C dX1_set_12 rfl rfl ?_
  refine gg_iast (pc := 13) C S 64 rfl rfl (by omega) (by decide) dX1_set_13 ?_
  exact gg_vret (pc := 14) C dX1_set_14 rfl
set_option maxRecDepth 100000 in
set_option maxHeartbeats 4000000 in
/-- write(node, slot, value) -/
theorem tM_write (l : Launch) (D : va_G) (h0 : Nat) (ad : Nat → Nat) (cI cZ : ClassId) (σ : ckS) (x y v : Int32) : ckI l yX1_write cX1_write 4 (some .int) (rmD 2) D (cmW h0 ad cI cZ) cI cZ [.ref h0, .int x, .int y, .int v] σ (fun r σ1 => (r = -1 ∧ (¬ ∃ n s1, n < 16 ∧ s1 < 4 ∧ x = nI n ∧ y = nI s1) ∧ σ1 = σ) ∨ (∃ n s1, n < 16 ∧ s1 < 4 ∧ x = nI n ∧ y = nI s1 ∧ r = 0 ∧ σ1 = pset (4 * n + s1) 0 v σ)) := by
  refine gg_inI (by decide) (by simp [Value.category]) (Nat.le_of_ble_eq_true rfl) ?_
  intro p e s m args below meth c A C hK
  have S := cmS (h0 := h0) (ad := ad) hK
  refine gg_lv (lv1 := [some (.ref h0), some (.int x), some (.int y), some (.int v)]) rfl ?_
  refine gg_iload_n (pc := 0) C dX1_write_0 rfl rfl ?_
  refine gg_iload_n (pc := 1) C dX1_write_1 rfl rfl ?_
  refine gg_callS (pc := 2) C (n := 2) [.int x, .int y] (tM_bad l x y) (lw_S q243 q244 q20 q245) (by decide +kernel) ⟨by decide, by decide⟩ rfl rfl rfl rfl (Nat.le_of_ble_eq_true rfl) dX1_write_2 ⟨by decide, by decide⟩ (fun r h => ?_)
  refine gg_if_eq (pc := 5) C 10 dX1_write_5 (by decide) (fun h1 => ?_) (fun h1 => ?_)
  · rcases h with ⟨rfl, n, s1, hn, hs, rfl, rfl⟩ | ⟨rfl, hno⟩
    · refine gg_aload_n (pc := 10) C dX1_write_10 rfl rfl ?_
      refine gg_iconst (pc := 11) (v := nI 4) C dX1_write_11 (by decide) ?_
      refine gg_iload_n (pc := 12) C dX1_write_12 rfl rfl ?_
      refine gg_imulN (pc := 13) C dX1_write_13 ?_
      refine gg_iload_n (pc := 14) C dX1_write_14 rfl rfl ?_
      refine gg_iaddN (pc := 15) C dX1_write_15 ?_
      refine gg_iconst (pc := 16) (v := nI 0) C dX1_write_16 (by decide) ?_
      refine gg_iload_n (pc := 17) C dX1_write_17 rfl rfl ?_
      refine gg_callV (pc := 18) C S (n := 3) [.int (nI (4 * n + s1)), .int (nI 0), .int v] (tM_set l D h0 ad cI cZ σ (i := 4 * n + s1) (by omega) (k := nI 0) (by decide) v) (lw_V q249 q251 qs17 q20 q252) (by decide +kernel) ⟨by decide, by decide⟩ rfl rfl rfl rfl (Nat.le_of_ble_eq_true rfl) dX1_write_18 ⟨by decide, by decide⟩ (fun σ1 h => ?_)
      refine gg_iconst (pc := 21) (v := nI 0) C dX1_write_21 (by decide) ?_
      exact gg_iret (pc := 22) C dX1_write_22 (Or.inr ⟨n, s1, hn, hs, rfl, rfl, rfl, h⟩)
    · exact absurd h1 (by decide)
  · rcases h with ⟨rfl, _⟩ | ⟨rfl, hno⟩
    · exact absurd rfl h1
    · refine gg_iconst (pc := 8) (v := -1) C dX1_write_8 (by decide) ?_
      exact gg_iret (pc := 9) C dX1_write_9 (Or.inl ⟨rfl, hno, rfl⟩)
set_option maxRecDepth 100000 in
set_option maxHeartbeats 4000000 in
/-- writeKey(node, slot, target) -/
theorem tM_writeKey (l : Launch) (D : va_G) (h0 : Nat) (ad : Nat → Nat) (cI cZ : ClassId) (σ : ckS) (x y z : Int32) : ckI l yX1_writeKey cX1_writeKey 4 (some .int) (rmD 2) D (cmW h0 ad cI cZ) cI cZ [.ref h0, .int x, .int y, .int z] σ (fun r σ1 => (r = -1 ∧ (¬ ∃ n s1 t, n < 16 ∧ s1 < 4 ∧ t < 16 ∧ x = nI n ∧ y = nI s1 ∧ z = nI t) ∧ σ1 = σ) ∨ (∃ n s1 t, n < 16 ∧ s1 < 4 ∧ t < 16 ∧ x = nI n ∧ y = nI s1 ∧ z = nI t ∧ r = 0 ∧ σ1 = pset (4 * n + s1) 1 (nI t) σ)) := by
  refine gg_inI (by decide) (by simp [Value.category]) (Nat.le_of_ble_eq_true rfl) ?_
  intro p e s m args below meth c A C hK
  have S := cmS (h0 := h0) (ad := ad) hK
  refine gg_lv (lv1 := [some (.ref h0), some (.int x), some (.int y), some (.int z)]) rfl ?_
  have no : (¬ ∃ n s1 t, n < 16 ∧ s1 < 4 ∧ t < 16 ∧ x = nI n ∧ y = nI s1 ∧ z = nI t) → GG p l e (rmD 2) s m args below meth c (MQ below (va_Qi (fun r σ1 => (r = -1 ∧ (¬ ∃ n s1 t, n < 16 ∧ s1 < 4 ∧ t < 16 ∧ x = nI n ∧ y = nI s1 ∧ z = nI t) ∧ σ1 = σ) ∨ (∃ n s1 t, n < 16 ∧ s1 < 4 ∧ t < 16 ∧ x = nI n ∧ y = nI s1 ∧ z = nI t ∧ r = 0 ∧ σ1 = pset (4 * n + s1) 1 (nI t) σ)) (ckB D (cmW h0 ad cI cZ) A) A) args s 0 0 A) D (cmW h0 ad cI cZ) A 4 0 0 15 [some (.ref h0), some (.int x), some (.int y), some (.int z)] [] σ := by
    intro hno
    refine gg_iconst (pc := 15) (v := -1) C dX1_writeKey_15 (by decide) ?_
    exact gg_iret (pc := 16) C dX1_writeKey_16 (Or.inl ⟨rfl, hno, rfl⟩)
  refine gg_iload_n (pc := 0) C dX1_writeKey_0 rfl rfl ?_
  refine gg_iload_n (pc := 1) C dX1_writeKey_1 rfl rfl ?_
  refine gg_callS (pc := 2) C (n := 2) [.int x, .int y] (tM_bad l x y) (lw_S q243 q244 q20 q245) (by decide +kernel) ⟨by decide, by decide⟩ rfl rfl rfl rfl (Nat.le_of_ble_eq_true rfl) dX1_writeKey_2 ⟨by decide, by decide⟩ (fun r h => ?_)
  refine gg_if_ne (pc := 5) C 15 dX1_writeKey_5 (by decide) (fun h1 => ?_) (fun h1 => ?_)
  · rcases h with ⟨rfl, _⟩ | ⟨rfl, hno⟩
    · exact absurd rfl h1
    · exact no (fun ⟨n, s1, t, hn, hs, ht, e1, e2, e3⟩ => hno ⟨n, s1, hn, hs, e1, e2⟩)
  · rcases h with ⟨rfl, n, s1, hn, hs, rfl, rfl⟩ | ⟨rfl, hno⟩
    · refine gg_iload_n (pc := 8) C dX1_writeKey_8 rfl rfl ?_
      refine gg_callS (pc := 9) C (n := 1) [.int z] (tM_badNode l z) (lw_S q246 q247 q20 q248) (by decide +kernel) ⟨by decide, by decide⟩ rfl rfl rfl rfl (Nat.le_of_ble_eq_true rfl) dX1_writeKey_9 ⟨by decide, by decide⟩ (fun r h => ?_)
      refine gg_if_eq (pc := 12) C 17 dX1_writeKey_12 (by decide) (fun h2 => ?_) (fun h2 => ?_)
      · rcases h with ⟨rfl, t, ht, rfl⟩ | ⟨rfl, hno⟩
        · refine gg_aload_n (pc := 17) C dX1_writeKey_17 rfl rfl ?_
          refine gg_iconst (pc := 18) (v := nI 4) C dX1_writeKey_18 (by decide) ?_
          refine gg_iload_n (pc := 19) C dX1_writeKey_19 rfl rfl ?_
          refine gg_imulN (pc := 20) C dX1_writeKey_20 ?_
          refine gg_iload_n (pc := 21) C dX1_writeKey_21 rfl rfl ?_
          refine gg_iaddN (pc := 22) C dX1_writeKey_22 ?_
          refine gg_iconst (pc := 23) (v := nI 1) C dX1_writeKey_23 (by decide) ?_
          refine gg_iload_n (pc := 24) C dX1_writeKey_24 rfl rfl ?_
          refine gg_callV (pc := 25) C S (n := 3) [.int (nI (4 * n + s1)), .int (nI 1), .int (nI t)] (tM_set l D h0 ad cI cZ σ (i := 4 * n + s1) (by omega) (k := nI 1) (by decide) (nI t)) (lw_V q249 q251 qs17 q20 q252) (by decide +kernel) ⟨by decide, by decide⟩ rfl rfl rfl rfl (Nat.le_of_ble_eq_true rfl) dX1_writeKey_25 ⟨by decide, by decide⟩ (fun σ1 h => ?_)
          refine gg_iconst (pc := 28) (v := nI 0) C dX1_writeKey_28 (by decide) ?_
          exact gg_iret (pc := 29) C dX1_writeKey_29 (Or.inr ⟨n, s1, t, hn, hs, ht, rfl, rfl, rfl, rfl, h⟩)
        · exact absurd h2 (by decide)
      · rcases h with ⟨rfl, _⟩ | ⟨rfl, hno⟩
        · exact absurd rfl h2
        · exact no (fun ⟨n, s1, t, hn, hs, ht, e1, e2, e3⟩ => hno ⟨t, ht, e3⟩)
    · exact absurd h1 (by decide)
set_option maxRecDepth 100000 in
set_option maxHeartbeats 4000000 in
/-- copy(node, slot, to, toSlot) -/
theorem tM_copy (l : Launch) (D : va_G) (h0 : Nat) (ad : Nat → Nat) (cI cZ : ClassId) (σ : ckS) (hb : Bit (σ 0)) (x y x2 y2 : Int32) : ckI l yX1_copy cX1_copy 5 (some .int) (rmD 2) D (cmW h0 ad cI cZ) cI cZ [.ref h0, .int x, .int y, .int x2, .int y2] σ (fun r σ1 => (r = -1 ∧ (¬ ∃ n s1 n2 s2, n < 16 ∧ s1 < 4 ∧ n2 < 16 ∧ s2 < 4 ∧ x = nI n ∧ y = nI s1 ∧ x2 = nI n2 ∧ y2 = nI s2) ∧ σ1 = σ) ∨ (∃ n s1 n2 s2, n < 16 ∧ s1 < 4 ∧ n2 < 16 ∧ s2 < 4 ∧ x = nI n ∧ y = nI s1 ∧ x2 = nI n2 ∧ y2 = nI s2 ∧ r = 0 ∧ σ1 = pset (4 * n2 + s2) (σ 0 (4 * n + s1)) (σ 1 (4 * n + s1)) σ)) := by
  refine gg_inI (by decide) (by simp [Value.category]) (Nat.le_of_ble_eq_true rfl) ?_
  intro p e s m args below meth c A C hK
  have S := cmS (h0 := h0) (ad := ad) hK
  refine gg_lv (lv1 := [some (.ref h0), some (.int x), some (.int y), some (.int x2), some (.int y2)]) rfl ?_
  have no : (¬ ∃ n s1 n2 s2, n < 16 ∧ s1 < 4 ∧ n2 < 16 ∧ s2 < 4 ∧ x = nI n ∧ y = nI s1 ∧ x2 = nI n2 ∧ y2 = nI s2) → GG p l e (rmD 2) s m args below meth c (MQ below (va_Qi (fun r σ1 => (r = -1 ∧ (¬ ∃ n s1 n2 s2, n < 16 ∧ s1 < 4 ∧ n2 < 16 ∧ s2 < 4 ∧ x = nI n ∧ y = nI s1 ∧ x2 = nI n2 ∧ y2 = nI s2) ∧ σ1 = σ) ∨ (∃ n s1 n2 s2, n < 16 ∧ s1 < 4 ∧ n2 < 16 ∧ s2 < 4 ∧ x = nI n ∧ y = nI s1 ∧ x2 = nI n2 ∧ y2 = nI s2 ∧ r = 0 ∧ σ1 = pset (4 * n2 + s2) (σ 0 (4 * n + s1)) (σ 1 (4 * n + s1)) σ)) (ckB D (cmW h0 ad cI cZ) A) A) args s 0 0 A) D (cmW h0 ad cI cZ) A 5 0 0 17 [some (.ref h0), some (.int x), some (.int y), some (.int x2), some (.int y2)] [] σ := by
    intro hno
    refine gg_iconst (pc := 17) (v := -1) C dX1_copy_17 (by decide) ?_
    exact gg_iret (pc := 18) C dX1_copy_18 (Or.inl ⟨rfl, hno, rfl⟩)
  refine gg_iload_n (pc := 0) C dX1_copy_0 rfl rfl ?_
  refine gg_iload_n (pc := 1) C dX1_copy_1 rfl rfl ?_
  refine gg_callS (pc := 2) C (n := 2) [.int x, .int y] (tM_bad l x y) (lw_S q243 q244 q20 q245) (by decide +kernel) ⟨by decide, by decide⟩ rfl rfl rfl rfl (Nat.le_of_ble_eq_true rfl) dX1_copy_2 ⟨by decide, by decide⟩ (fun r h => ?_)
  refine gg_if_ne (pc := 5) C 17 dX1_copy_5 (by decide) (fun h1 => ?_) (fun h1 => ?_)
  · rcases h with ⟨rfl, _⟩ | ⟨rfl, hno⟩
    · exact absurd rfl h1
    · exact no (fun ⟨n, s1, n2, s2, hn, hs, _, _, e1, e2, _, _⟩ => hno ⟨n, s1, hn, hs, e1, e2⟩)
  · rcases h with ⟨rfl, n, s1, hn, hs, rfl, rfl⟩ | ⟨rfl, hno⟩
    · refine gg_iload_n (pc := 8) C dX1_copy_8 rfl rfl ?_
      refine gg_iload (pc := 9) C dX1_copy_9 rfl ?_
      refine gg_callS (pc := 11) C (n := 2) [.int x2, .int y2] (tM_bad l x2 y2) (lw_S q243 q244 q20 q245) (by decide +kernel) ⟨by decide, by decide⟩ rfl rfl rfl rfl (Nat.le_of_ble_eq_true rfl) dX1_copy_11 ⟨by decide, by decide⟩ (fun r h => ?_)
      refine gg_if_eq (pc := 14) C 19 dX1_copy_14 (by decide) (fun h2 => ?_) (fun h2 => ?_)
      · rcases h with ⟨rfl, n2, s2, hn2, hs2, rfl, rfl⟩ | ⟨rfl, hno⟩
        · refine gg_aload_n (pc := 19) C dX1_copy_19 rfl rfl ?_
          refine gg_iconst (pc := 20) (v := nI 4) C dX1_copy_20 (by decide) ?_
          refine gg_iload_n (pc := 21) C dX1_copy_21 rfl rfl ?_
          refine gg_imulN (pc := 22) C dX1_copy_22 ?_
          refine gg_iload (pc := 23) C dX1_copy_23 rfl ?_
          refine gg_iaddN (pc := 25) C dX1_copy_25 ?_
          refine gg_aload_n (pc := 26) C dX1_copy_26 rfl rfl ?_
          refine gg_getA (pc := 27) C S 0 (by decide) (Or.inr rfl) q217 dX1_copy_27 ?_
          refine gg_iconst (pc := 30) (v := nI 4) C dX1_copy_30 (by decide) ?_
          refine gg_iload_n (pc := 31) C dX1_copy_31 rfl rfl ?_
          refine gg_imulN (pc := 32) C dX1_copy_32 ?_
          refine gg_iload_n (pc := 33) C dX1_copy_33 rfl rfl ?_
          refine gg_iaddN (pc := 34) C dX1_copy_34 ?_
          refine gg_zald (pc := 35) C S 64 rfl rfl (by omega) (by decide) dX1_copy_35 ?_
          refine gg_aload_n (pc := 36) C dX1_copy_36 rfl rfl ?_
          refine gg_getA (pc := 37) C S 1 (by decide) (Or.inl rfl) q218 dX1_copy_37 ?_
          refine gg_iconst (pc := 40) (v := nI 4) C dX1_copy_40 (by decide) ?_
          refine gg_iload_n (pc := 41) C dX1_copy_41 rfl rfl ?_
          refine gg_imulN (pc := 42) C dX1_copy_42 ?_
          refine gg_iload_n (pc := 43) C dX1_copy_43 rfl rfl ?_
          refine gg_iaddN (pc := 44) C dX1_copy_44 ?_
          refine gg_iald (pc := 45) C S 64 rfl rfl (by omega) (by decide) dX1_copy_45 ?_
          refine gg_callV (pc := 46) C S (n := 3) [.int (nI (4 * n2 + s2)), .int (σ 0 (4 * n + s1)), .int (σ 1 (4 * n + s1))] (tM_set l D h0 ad cI cZ σ (i := 4 * n2 + s2) (by omega) (k := σ 0 (4 * n + s1)) (hb.nar (by omega)) (σ 1 (4 * n + s1))) (lw_V q249 q251 qs17 q20 q252) (by decide +kernel) ⟨by decide, by decide⟩ rfl rfl rfl rfl (Nat.le_of_ble_eq_true rfl) dX1_copy_46 ⟨by decide, by decide⟩ (fun σ1 h => ?_)
          refine gg_iconst (pc := 49) (v := nI 0) C dX1_copy_49 (by decide) ?_
          exact gg_iret (pc := 50) C dX1_copy_50 (Or.inr ⟨n, s1, n2, s2, hn, hs, hn2, hs2, rfl, rfl, rfl, rfl, rfl, h⟩)
        · exact absurd h2 (by decide)
      · rcases h with ⟨rfl, _⟩ | ⟨rfl, hno⟩
        · exact absurd rfl h2
        · exact no (fun ⟨n, s1, n2, s2, _, _, hn, hs, _, _, e1, e2⟩ => hno ⟨n2, s2, hn, hs, e1, e2⟩)
    · exact absurd h1 (by decide)
/-- the places that rescind(n) empties -/
def rsC (σ : ckS) (n j : Nat) : Prop := j / 4 = n ∨ (¬ σ 0 j = 0 ∧ σ 1 j = nI n)
set_option maxRecDepth 100000 in
set_option maxHeartbeats 4000000 in
/-- rescind(node) -/
theorem tM_rescind (l : Launch) (D : va_G) (h0 : Nat) (ad : Nat → Nat) (cI cZ : ClassId) (σ : ckS) (x : Int32) : ckI l yX1_rescind cX1_rescind 3 (some .int) (rmD 1) D (cmW h0 ad cI cZ) cI cZ [.ref h0, .int x] σ (fun r σ1 => (r = -1 ∧ (¬ ∃ n, n < 16 ∧ x = nI n) ∧ σ1 = σ) ∨ (∃ n, n < 16 ∧ x = nI n ∧ r = 0 ∧ (∀ j, j < 64 → (rsC σ n j → σ1 0 j = 0 ∧ σ1 1 j = 0) ∧ (¬ rsC σ n j → σ1 0 j = σ 0 j ∧ σ1 1 j = σ 1 j)) ∧ ∀ k, 2 ≤ k → σ1 k = σ k)) := by
  refine gg_inI (by decide) (by simp [Value.category]) (Nat.le_of_ble_eq_true rfl) ?_
  intro p e s m args below meth c A C hK
  have S := cmS (h0 := h0) (ad := ad) hK
  refine gg_lv (lv1 := [some (.ref h0), some (.int x), none]) rfl ?_
  refine gg_iload_n (pc := 0) C dX1_rescind_0 rfl rfl ?_
  refine gg_callS (pc := 1) C (n := 1) [.int x] (tM_badNode l x) (lw_S q246 q247 q20 q248) (by decide +kernel) ⟨by decide, by decide⟩ rfl rfl rfl rfl (Nat.le_of_ble_eq_true rfl) dX1_rescind_1 ⟨by decide, by decide⟩ (fun r h => ?_)
  refine gg_if_eq (pc := 4) C 9 dX1_rescind_4 (by decide) (fun h1 => ?_) (fun h1 => ?_)
  · rcases h with ⟨rfl, n, hn, rfl⟩ | ⟨rfl, hno⟩
    · refine gg_iconst (pc := 9) (v := nI 0) C dX1_rescind_9 (by decide) ?_
      refine gg_istore_n (pc := 10) C dX1_rescind_10 rfl (by decide) rfl ?_
      refine gg_loopX (F := GG p l e (rmD 1) s m args below meth c _ D _ A 3 0 0) 11 [] (fun i (_ : ckS) => [some (.ref h0), some (.int (nI n)), some (.int (nI i))]) (fun X => X) (fun i X => (∀ j, j < i → (rsC σ n j → X 0 j = 0 ∧ X 1 j = 0) ∧ (¬ rsC σ n j → X 0 j = σ 0 j ∧ X 1 j = σ 1 j)) ∧ (∀ j, i ≤ j → X 0 j = σ 0 j ∧ X 1 j = σ 1 j) ∧ ∀ k, 2 ≤ k → X k = σ k) 64 (fun i σ1 hi hX ih => ?_) σ 0 (by omega) ⟨fun j hj => absurd hj (by omega), fun j _ => ⟨rfl, rfl⟩, fun k _ => rfl⟩
      obtain ⟨x1, x2, x3⟩ := hX
      have x2 : ∀ j, i ≤ j → σ1 0 j = σ 0 j ∧ σ1 1 j = σ 1 j := x2
      refine gg_iload_n (pc := 11) C dX1_rescind_11 rfl rfl ?_
      refine gg_bipush (pc := 12) (v := nI 64) C dX1_rescind_12 (by decide) ?_
      refine gg_icmp_geN (pc := 14) C 56 dX1_rescind_14 (by decide) (by omega) (by omega) (fun h => ?_) (fun h => ?_)
      · refine gg_iconst (pc := 56) (v := nI 0) C dX1_rescind_56 (by decide) ?_
        exact gg_iret (pc := 57) C dX1_rescind_57 (Or.inr ⟨n, hn, rfl, rfl, fun j hj => x1 j (by omega), x3⟩)
      · have stp1 : rsC σ n i → GG p l e (rmD 1) s m args below meth c (MQ below (va_Qi (fun r σ1 => (r = -1 ∧ (¬ ∃ n_, n_ < 16 ∧ nI n = nI n_) ∧ σ1 = σ) ∨ (∃ n_, n_ < 16 ∧ nI n = nI n_ ∧ r = 0 ∧ (∀ j, j < 64 → (rsC σ n_ j → σ1 0 j = 0 ∧ σ1 1 j = 0) ∧ (¬ rsC σ n_ j → σ1 0 j = σ 0 j ∧ σ1 1 j = σ 1 j)) ∧ ∀ k, 2 ≤ k → σ1 k = σ k)) (ckB D (cmW h0 ad cI cZ) A) A) args s 0 0 A) D (cmW h0 ad cI cZ) A 3 0 0 43 [some (.ref h0), some (.int (nI n)), some (.int (nI i))] [] σ1 := by
          intro hc
          refine gg_aload_n (pc := 43) C dX1_rescind_43 rfl rfl ?_
          refine gg_iload_n (pc := 44) C dX1_rescind_44 rfl rfl ?_
          refine gg_iconst (pc := 45) (v := nI 0) C dX1_rescind_45 (by decide) ?_
          refine gg_iconst (pc := 46) (v := nI 0) C dX1_rescind_46 (by decide) ?_
          refine gg_callV (pc := 47) C S (n := 3) [.int (nI i), .int (nI 0), .int (nI 0)] (tM_set l D h0 ad cI cZ σ1 (i := i) (by omega) (k := nI 0) (by decide) (nI 0)) (lw_V q249 q251 qs17 q20 q252) (by decide +kernel) ⟨by decide, by decide⟩ rfl rfl rfl rfl (Nat.le_of_ble_eq_true rfl) dX1_rescind_47 ⟨by decide, by decide⟩ (fun σ2 h2 => ?_)
          subst h2
          refine gg_iincN (pc := 50) C dX1_rescind_50 rfl (by decide) rfl ?_
          refine gg_goto (pc := 53) C 11 dX1_rescind_53 (by decide) ?_
          refine ih (pset i 0 0 σ1) h ⟨fun j hj => ?_, fun j hj => ?_, fun k hk => ?_⟩
          · have p0 : pset i 0 0 σ1 0 = upd (σ1 0) i 0 := rfl
            have p1 : pset i 0 0 σ1 1 = upd (σ1 1) i 0 := rfl
            rw [p0, p1]
            by_cases q : j = i
            · rw [q, up_s, up_s]; exact ⟨fun _ => ⟨rfl, rfl⟩, fun z => absurd hc z⟩
            · rw [up_n q, up_n q]; exact x1 j (by omega)
          · have p0 : pset i 0 0 σ1 0 = upd (σ1 0) i 0 := rfl
            have p1 : pset i 0 0 σ1 1 = upd (σ1 1) i 0 := rfl
            rw [p0, p1, up_n (by omega), up_n (by omega)]; exact x2 j (by omega)
          · unfold pset; rw [kUp_n (by omega), kUp_n (by omega)]; exact x3 k hk
        have stp2 : ¬ rsC σ n i → GG p l e (rmD 1) s m args below meth c (MQ below (va_Qi (fun r σ1 => (r = -1 ∧ (¬ ∃ n_, n_ < 16 ∧ nI n = nI n_) ∧ σ1 = σ) ∨ (∃ n_, n_ < 16 ∧ nI n = nI n_ ∧ r = 0 ∧ (∀ j, j < 64 → (rsC σ n_ j → σ1 0 j = 0 ∧ σ1 1 j = 0) ∧ (¬ rsC σ n_ j → σ1 0 j = σ 0 j ∧ σ1 1 j = σ 1 j)) ∧ ∀ k, 2 ≤ k → σ1 k = σ k)) (ckB D (cmW h0 ad cI cZ) A) A) args s 0 0 A) D (cmW h0 ad cI cZ) A 3 0 0 50 [some (.ref h0), some (.int (nI n)), some (.int (nI i))] [] σ1 := by
          intro hc
          refine gg_iincN (pc := 50) C dX1_rescind_50 rfl (by decide) rfl ?_
          refine gg_goto (pc := 53) C 11 dX1_rescind_53 (by decide) ?_
          refine ih σ1 h ⟨fun j hj => ?_, fun j hj => x2 j (by omega), x3⟩
          by_cases q : j = i
          · rw [q]; exact ⟨fun z => absurd z hc, fun _ => x2 i (Nat.le_refl _)⟩
          · exact x1 j (by omega)
        refine gg_iload_n (pc := 17) C dX1_rescind_17 rfl rfl ?_
        refine gg_iconst (pc := 18) (v := nI 4) C dX1_rescind_18 (by decide) ?_
        refine gg_idiv (pc := 19) C dX1_rescind_19 (by decide) ?_
        refine gg_top (y := nI (i / 4)) (pk_div (by omega) (by omega) (by omega)) ?_
        refine gg_iload_n (pc := 20) C dX1_rescind_20 rfl rfl ?_
        refine gg_icmp_eqN (pc := 21) C 43 dX1_rescind_21 (by decide) (by omega) (by omega) (fun h2 => ?_) (fun h2 => ?_)
        · exact stp1 (Or.inl h2)
        · refine gg_aload_n (pc := 24) C dX1_rescind_24 rfl rfl ?_
          refine gg_getA (pc := 25) C S 0 (by decide) (Or.inr rfl) q217 dX1_rescind_25 ?_
          refine gg_iload_n (pc := 28) C dX1_rescind_28 rfl rfl ?_
          refine gg_zald (pc := 29) C S 64 rfl rfl (by omega) (by decide) dX1_rescind_29 ?_
          refine gg_top (x2 i (Nat.le_refl _)).1 ?_
          refine gg_if_eq (pc := 30) C 50 dX1_rescind_30 (by decide) (fun h3 => ?_) (fun h3 => ?_)
          · exact stp2 (fun z => z.elim h2 (fun y => y.1 h3))
          · refine gg_aload_n (pc := 33) C dX1_rescind_33 rfl rfl ?_
            refine gg_getA (pc := 34) C S 1 (by decide) (Or.inl rfl) q218 dX1_rescind_34 ?_
            refine gg_iload_n (pc := 37) C dX1_rescind_37 rfl rfl ?_
            refine gg_iald (pc := 38) C S 64 rfl rfl (by omega) (by decide) dX1_rescind_38 ?_
            refine gg_top (x2 i (Nat.le_refl _)).2 ?_
            refine gg_iload_n (pc := 39) C dX1_rescind_39 rfl rfl ?_
            refine gg_icmp_ne (pc := 40) C 50 dX1_rescind_40 (by decide) (fun h4 => ?_) (fun h4 => ?_)
            · exact stp2 (fun z => z.elim h2 (fun y => h4 y.2))
            · exact stp1 (Or.inr ⟨h3, h4⟩)
    · exact absurd h1 (by decide)
  · rcases h with ⟨rfl, _⟩ | ⟨rfl, hno⟩
    · exact absurd rfl h1
    · refine gg_iconst (pc := 7) (v := -1) C dX1_rescind_7 (by decide) ?_
      exact gg_iret (pc := 8) C dX1_rescind_8 (Or.inl ⟨rfl, hno, rfl⟩)
set_option maxRecDepth 100000 in
set_option maxHeartbeats 4000000 in
/-- key(node, slot) -/
theorem tM_key (l : Launch) (D : va_G) (h0 : Nat) (ad : Nat → Nat) (cI cZ : ClassId) (σ : ckS) (x y : Int32) : ckI l yX1_key cX1_key 3 (some .int) (rmD 2) D (cmW h0 ad cI cZ) cI cZ [.ref h0, .int x, .int y] σ (fun r σ1 => (r = -1 ∧ (¬ ∃ n s1, n < 16 ∧ s1 < 4 ∧ x = nI n ∧ y = nI s1) ∧ σ1 = σ) ∨ (∃ n s1, n < 16 ∧ s1 < 4 ∧ x = nI n ∧ y = nI s1 ∧ r = (if σ 0 (4 * n + s1) = 0 then -2 else σ 1 (4 * n + s1)) ∧ σ1 = σ)) := by
  refine gg_inI (by decide) (by simp [Value.category]) (Nat.le_of_ble_eq_true rfl) ?_
  intro p e s m args below meth c A C hK
  have S := cmS (h0 := h0) (ad := ad) hK
  refine gg_lv (lv1 := [some (.ref h0), some (.int x), some (.int y)]) rfl ?_
  refine gg_iload_n (pc := 0) C dX1_key_0 rfl rfl ?_
  refine gg_iload_n (pc := 1) C dX1_key_1 rfl rfl ?_
  refine gg_callS (pc := 2) C (n := 2) [.int x, .int y] (tM_bad l x y) (lw_S q243 q244 q20 q245) (by decide +kernel) ⟨by decide, by decide⟩ rfl rfl rfl rfl (Nat.le_of_ble_eq_true rfl) dX1_key_2 ⟨by decide, by decide⟩ (fun r h => ?_)
  refine gg_if_eq (pc := 5) C 10 dX1_key_5 (by decide) (fun h1 => ?_) (fun h1 => ?_)
  · rcases h with ⟨rfl, n, s1, hn, hs, rfl, rfl⟩ | ⟨rfl, hno⟩
    · refine gg_aload_n (pc := 10) C dX1_key_10 rfl rfl ?_
      refine gg_getA (pc := 11) C S 0 (by decide) (Or.inr rfl) q217 dX1_key_11 ?_
      refine gg_iconst (pc := 14) (v := nI 4) C dX1_key_14 (by decide) ?_
      refine gg_iload_n (pc := 15) C dX1_key_15 rfl rfl ?_
      refine gg_imulN (pc := 16) C dX1_key_16 ?_
      refine gg_iload_n (pc := 17) C dX1_key_17 rfl rfl ?_
      refine gg_iaddN (pc := 18) C dX1_key_18 ?_
      refine gg_zald (pc := 19) C S 64 rfl rfl (by omega) (by decide) dX1_key_19 ?_
      refine gg_if_eq (pc := 20) C 36 dX1_key_20 (by decide) (fun h2 => ?_) (fun h2 => ?_)
      · refine gg_bipush (pc := 36) (v := -2) C dX1_key_36 (by decide) ?_
        exact gg_iret (pc := 38) C dX1_key_38 (Or.inr ⟨n, s1, hn, hs, rfl, rfl, by rw [if_pos h2], rfl⟩)
      · refine gg_aload_n (pc := 23) C dX1_key_23 rfl rfl ?_
        refine gg_getA (pc := 24) C S 1 (by decide) (Or.inl rfl) q218 dX1_key_24 ?_
        refine gg_iconst (pc := 27) (v := nI 4) C dX1_key_27 (by decide) ?_
        refine gg_iload_n (pc := 28) C dX1_key_28 rfl rfl ?_
        refine gg_imulN (pc := 29) C dX1_key_29 ?_
        refine gg_iload_n (pc := 30) C dX1_key_30 rfl rfl ?_
        refine gg_iaddN (pc := 31) C dX1_key_31 ?_
        refine gg_iald (pc := 32) C S 64 rfl rfl (by omega) (by decide) dX1_key_32 ?_
        refine gg_goto (pc := 33) C 38 dX1_key_33 (by decide) ?_
        exact gg_iret (pc := 38) C dX1_key_38 (Or.inr ⟨n, s1, hn, hs, rfl, rfl, by rw [if_neg h2], rfl⟩)
    · exact absurd h1 (by decide)
  · rcases h with ⟨rfl, _⟩ | ⟨rfl, hno⟩
    · exact absurd rfl h1
    · refine gg_iconst (pc := 8) (v := -1) C dX1_key_8 (by decide) ?_
      exact gg_iret (pc := 9) C dX1_key_9 (Or.inl ⟨rfl, hno, rfl⟩)
set_option maxRecDepth 100000 in
set_option maxHeartbeats 4000000 in
/-- number(node, slot) -/
theorem tM_number (l : Launch) (D : va_G) (h0 : Nat) (ad : Nat → Nat) (cI cZ : ClassId) (σ : ckS) (x y : Int32) : ckI l yX1_number cX1_number 3 (some .int) (rmD 2) D (cmW h0 ad cI cZ) cI cZ [.ref h0, .int x, .int y] σ (fun r σ1 => (r = 0 ∧ (¬ ∃ n s1, n < 16 ∧ s1 < 4 ∧ x = nI n ∧ y = nI s1) ∧ σ1 = σ) ∨ (∃ n s1, n < 16 ∧ s1 < 4 ∧ x = nI n ∧ y = nI s1 ∧ r = (if σ 0 (4 * n + s1) = 0 then σ 1 (4 * n + s1) else 0) ∧ σ1 = σ)) := by
  refine gg_inI (by decide) (by simp [Value.category]) (Nat.le_of_ble_eq_true rfl) ?_
  intro p e s m args below meth c A C hK
  have S := cmS (h0 := h0) (ad := ad) hK
  refine gg_lv (lv1 := [some (.ref h0), some (.int x), some (.int y)]) rfl ?_
  refine gg_iload_n (pc := 0) C dX1_number_0 rfl rfl ?_
  refine gg_iload_n (pc := 1) C dX1_number_1 rfl rfl ?_
  refine gg_callS (pc := 2) C (n := 2) [.int x, .int y] (tM_bad l x y) (lw_S q243 q244 q20 q245) (by decide +kernel) ⟨by decide, by decide⟩ rfl rfl rfl rfl (Nat.le_of_ble_eq_true rfl) dX1_number_2 ⟨by decide, by decide⟩ (fun r h => ?_)
  refine gg_if_eq (pc := 5) C 10 dX1_number_5 (by decide) (fun h1 => ?_) (fun h1 => ?_)
  · rcases h with ⟨rfl, n, s1, hn, hs, rfl, rfl⟩ | ⟨rfl, hno⟩
    · refine gg_aload_n (pc := 10) C dX1_number_10 rfl rfl ?_
      refine gg_getA (pc := 11) C S 0 (by decide) (Or.inr rfl) q217 dX1_number_11 ?_
      refine gg_iconst (pc := 14) (v := nI 4) C dX1_number_14 (by decide) ?_
      refine gg_iload_n (pc := 15) C dX1_number_15 rfl rfl ?_
      refine gg_imulN (pc := 16) C dX1_number_16 ?_
      refine gg_iload_n (pc := 17) C dX1_number_17 rfl rfl ?_
      refine gg_iaddN (pc := 18) C dX1_number_18 ?_
      refine gg_zald (pc := 19) C S 64 rfl rfl (by omega) (by decide) dX1_number_19 ?_
      refine gg_if_eq (pc := 20) C 27 dX1_number_20 (by decide) (fun h2 => ?_) (fun h2 => ?_)
      · refine gg_aload_n (pc := 27) C dX1_number_27 rfl rfl ?_
        refine gg_getA (pc := 28) C S 1 (by decide) (Or.inl rfl) q218 dX1_number_28 ?_
        refine gg_iconst (pc := 31) (v := nI 4) C dX1_number_31 (by decide) ?_
        refine gg_iload_n (pc := 32) C dX1_number_32 rfl rfl ?_
        refine gg_imulN (pc := 33) C dX1_number_33 ?_
        refine gg_iload_n (pc := 34) C dX1_number_34 rfl rfl ?_
        refine gg_iaddN (pc := 35) C dX1_number_35 ?_
        refine gg_iald (pc := 36) C S 64 rfl rfl (by omega) (by decide) dX1_number_36 ?_
        exact gg_iret (pc := 37) C dX1_number_37 (Or.inr ⟨n, s1, hn, hs, rfl, rfl, by rw [if_pos h2], rfl⟩)
      · refine gg_iconst (pc := 23) (v := nI 0) C dX1_number_23 (by decide) ?_
        refine gg_goto (pc := 24) C 37 dX1_number_24 (by decide) ?_
        exact gg_iret (pc := 37) C dX1_number_37 (Or.inr ⟨n, s1, hn, hs, rfl, rfl, by rw [if_neg h2]; rfl, rfl⟩)
    · exact absurd h1 (by decide)
  · rcases h with ⟨rfl, _⟩ | ⟨rfl, hno⟩
    · exact absurd rfl h1
    · refine gg_iconst (pc := 8) (v := nI 0) C dX1_number_8 (by decide) ?_
      exact gg_iret (pc := 9) C dX1_number_9 (Or.inl ⟨rfl, hno, rfl⟩)
def mkO (σ : ckS) (s1 a : Nat) : Option Nat := if σ 0 (4 * a + s1) = 0 then none else some (σ 1 (4 * a + s1)).toNatClampNeg
theorem stp_mid {k : Int32} (h1 : ¬ k < 0) (h2 : k ≤ nI 16) : k = nI (stp k) := by
  obtain ⟨j, hj, rfl⟩ := nI_of h1
  unfold stp
  rw [if_neg h1, if_neg (Int32.not_lt.mpr h2), nI_clamp hj]
set_option maxRecDepth 100000 in
set_option maxHeartbeats 4000000 in
/-- follow(node, slot, steps) -/
theorem tM_follow (l : Launch) (D : va_G) (h0 : Nat) (ad : Nat → Nat) (cI cZ : ClassId) (σ : ckS) (hk : ∀ i, i < 64 → ¬ σ 0 i = 0 → ∃ t, t < 16 ∧ σ 1 i = nI t) (x y k : Int32) : ckI l yX1_follow cX1_follow 7 (some .int) (rmD 2) D (cmW h0 ad cI cZ) cI cZ [.ref h0, .int x, .int y, .int k] σ (fun r σ1 => (r = -1 ∧ (¬ ∃ n s1, n < 16 ∧ s1 < 4 ∧ x = nI n ∧ y = nI s1) ∧ σ1 = σ) ∨ (∃ n s1, n < 16 ∧ s1 < 4 ∧ x = nI n ∧ y = nI s1 ∧ r = flw (mkO σ s1) (stp k) n ∧ σ1 = σ)) := by
  refine gg_inI (by decide) (by simp [Value.category]) (Nat.le_of_ble_eq_true rfl) ?_
  intro p e s m args below meth c A C hK
  have S := cmS (h0 := h0) (ad := ad) hK
  refine gg_lv (lv1 := [some (.ref h0), some (.int x), some (.int y), some (.int k), none, none, none]) rfl ?_
  refine gg_iload_n (pc := 0) C dX1_follow_0 rfl rfl ?_
  refine gg_iload_n (pc := 1) C dX1_follow_1 rfl rfl ?_
  refine gg_callS (pc := 2) C (n := 2) [.int x, .int y] (tM_bad l x y) (lw_S q243 q244 q20 q245) (by decide +kernel) ⟨by decide, by decide⟩ rfl rfl rfl rfl (Nat.le_of_ble_eq_true rfl) dX1_follow_2 ⟨by decide, by decide⟩ (fun r h => ?_)
  refine gg_if_eq (pc := 5) C 10 dX1_follow_5 (by decide) (fun h1 => ?_) (fun h1 => ?_)
  · rcases h with ⟨rfl, n, s1, hn, hs, rfl, rfl⟩ | ⟨rfl, hno⟩
    · have s16 := stp_16 k
      have tl : GG p l e (rmD 2) s m args below meth c (MQ below (va_Qi (fun r σ1 => (r = -1 ∧ (¬ ∃ n_ s1_, n_ < 16 ∧ s1_ < 4 ∧ nI n = nI n_ ∧ nI s1 = nI s1_) ∧ σ1 = σ) ∨ (∃ n_ s1_, n_ < 16 ∧ s1_ < 4 ∧ nI n = nI n_ ∧ nI s1 = nI s1_ ∧ r = flw (mkO σ s1_) (stp k) n_ ∧ σ1 = σ)) (ckB D (cmW h0 ad cI cZ) A) A) args s 0 0 A) D (cmW h0 ad cI cZ) A 7 0 0 30 [some (.ref h0), some (.int (nI n)), some (.int (nI s1)), some (.int k), none, none, none] [.int (nI (stp k))] σ := by
        refine gg_istore (pc := 30) C dX1_follow_30 (by decide) rfl ?_
        refine gg_iload_n (pc := 32) C dX1_follow_32 rfl rfl ?_
        refine gg_istore (pc := 33) C dX1_follow_33 (by decide) rfl ?_
        refine gg_iconst (pc := 35) (v := nI 0) C dX1_follow_35 (by decide) ?_
        refine gg_istore (pc := 36) C dX1_follow_36 (by decide) rfl ?_
        refine gg_loopX (F := GG p l e (rmD 2) s m args below meth c _ D _ A 7 0 0) 38 [] (fun i (X : Nat) => [some (.ref h0), some (.int (nI n)), some (.int (nI s1)), some (.int k), some (.int (nI (stp k))), some (.int (nI X)), some (.int (nI i))]) (fun _ => σ) (fun i X => X < 16 ∧ flw (mkO σ s1) (stp k) n = flw (mkO σ s1) (stp k - i) X) (stp k) (fun i a hi hX ih => ?_) n 0 (by omega) ⟨hn, rfl⟩
        obtain ⟨ha, hfl⟩ := hX
        refine gg_iload (pc := 38) C dX1_follow_38 rfl ?_
        refine gg_iload (pc := 40) C dX1_follow_40 rfl ?_
        refine gg_icmp_geN (pc := 42) C 81 dX1_follow_42 (by decide) (by omega) (by omega) (fun h2 => ?_) (fun h2 => ?_)
        · rw [show stp k - i = 0 by omega] at hfl
          refine gg_iload (pc := 81) C dX1_follow_81 rfl ?_
          exact gg_iret (pc := 83) C dX1_follow_83 (Or.inr ⟨n, s1, hn, hs, rfl, rfl, hfl.symm, rfl⟩)
        · obtain ⟨q, hq⟩ : ∃ q, stp k - i = q + 1 := ⟨stp k - i - 1, by omega⟩
          rw [hq, flw] at hfl
          refine gg_aload_n (pc := 45) C dX1_follow_45 rfl rfl ?_
          refine gg_getA (pc := 46) C S 0 (by decide) (Or.inr rfl) q217 dX1_follow_46 ?_
          refine gg_iconst (pc := 49) (v := nI 4) C dX1_follow_49 (by decide) ?_
          refine gg_iload (pc := 50) C dX1_follow_50 rfl ?_
          refine gg_imulN (pc := 52) C dX1_follow_52 ?_
          refine gg_iload_n (pc := 53) C dX1_follow_53 rfl rfl ?_
          refine gg_iaddN (pc := 54) C dX1_follow_54 ?_
          refine gg_zald (pc := 55) C S 64 rfl rfl (by omega) (by decide) dX1_follow_55 ?_
          refine gg_if_ne (pc := 56) C 62 dX1_follow_56 (by decide) (fun h3 => ?_) (fun h3 => ?_)
          · obtain ⟨t, ht, et⟩ := hk (4 * a + s1) (by omega) h3
            have em : mkO σ s1 a = some t := by unfold mkO; rw [if_neg h3, et, nI_clamp (by omega)]
            rw [em] at hfl
            refine gg_aload_n (pc := 62) C dX1_follow_62 rfl rfl ?_
            refine gg_getA (pc := 63) C S 1 (by decide) (Or.inl rfl) q218 dX1_follow_63 ?_
            refine gg_iconst (pc := 66) (v := nI 4) C dX1_follow_66 (by decide) ?_
            refine gg_iload (pc := 67) C dX1_follow_67 rfl ?_
            refine gg_imulN (pc := 69) C dX1_follow_69 ?_
            refine gg_iload_n (pc := 70) C dX1_follow_70 rfl rfl ?_
            refine gg_iaddN (pc := 71) C dX1_follow_71 ?_
            refine gg_iald (pc := 72) C S 64 rfl rfl (by omega) (by decide) dX1_follow_72 ?_
            refine gg_top et ?_
            refine gg_istore (pc := 73) C dX1_follow_73 (by decide) rfl ?_
            refine gg_iincN (pc := 75) C dX1_follow_75 rfl (by decide) rfl ?_
            refine gg_goto (pc := 78) C 38 dX1_follow_78 (by decide) ?_
            exact ih t h2 ⟨ht, by rw [hfl, show stp k - (i + 1) = q by omega]⟩
          · have em : mkO σ s1 a = none := by unfold mkO; rw [if_pos h3]
            rw [em] at hfl
            refine gg_bipush (pc := 59) (v := -2) C dX1_follow_59 (by decide) ?_
            exact gg_iret (pc := 61) C dX1_follow_61 (Or.inr ⟨n, s1, hn, hs, rfl, rfl, hfl.symm, rfl⟩)
      refine gg_iload_n (pc := 10) C dX1_follow_10 rfl rfl ?_
      refine gg_if_ge (pc := 11) C 18 dX1_follow_11 (by decide) (fun h2 => ?_) (fun h2 => ?_)
      · have h2n : ¬ k < 0 := Int32.not_lt.mpr h2
        refine gg_iload_n (pc := 18) C dX1_follow_18 rfl rfl ?_
        refine gg_bipush (pc := 19) (v := nI 16) C dX1_follow_19 (by decide) ?_
        refine gg_icmp_le (pc := 21) C 29 dX1_follow_21 (by decide) (fun h3 => ?_) (fun h3 => ?_)
        · refine gg_iload_n (pc := 29) C dX1_follow_29 rfl rfl ?_
          exact gg_top (stp_mid h2n h3) tl
        · refine gg_bipush (pc := 24) (v := nI 16) C dX1_follow_24 (by decide) ?_
          refine gg_goto (pc := 26) C 30 dX1_follow_26 (by decide) ?_
          exact gg_top (by unfold stp; rw [if_neg h2n, if_pos (Int32.not_le.mp h3)]) tl
      · refine gg_iconst (pc := 14) (v := nI 0) C dX1_follow_14 (by decide) ?_
        refine gg_goto (pc := 15) C 30 dX1_follow_15 (by decide) ?_
        exact gg_top (by unfold stp; rw [if_pos (Int32.not_le.mp h2)]) tl
    · exact absurd h1 (by decide)
  · rcases h with ⟨rfl, _⟩ | ⟨rfl, hno⟩
    · exact absurd rfl h1
    · refine gg_iconst (pc := 8) (v := -1) C dX1_follow_8 (by decide) ?_
      exact gg_iret (pc := 9) C dX1_follow_9 (Or.inl ⟨rfl, hno, rfl⟩)
/-- the model's copying loops: arrays a, b get c, d -/
def p_mc (a b c d : Nat) : Nat → ckS → ckS
  | 0, σ => σ
  | i + 1, σ => ckUp (ckUp (p_mc a b c d i σ) a (upd (p_mc a b c d i σ a) i (p_mc a b c d i σ c i))) b (upd (p_mc a b c d i σ b) i (p_mc a b c d i σ d i))
theorem p_mc_k {a b c d : Nat} (σ : ckS) : ∀ (i k : Nat), k ≠ a → k ≠ b → p_mc a b c d i σ k = σ k := by
  intro i
  induction i with
  | zero => intro k _ _; rfl
  | succ i ih => intro k h1 h2; rw [p_mc, kUp_n h2, kUp_n h1]; exact ih k h1 h2
theorem p_mc_f {a b c d : Nat} (hab : a ≠ b) (h1 : c ≠ a) (h2 : c ≠ b) (h3 : d ≠ a) (h4 : d ≠ b) (σ : ckS) : ∀ (i j : Nat), j < i → p_mc a b c d i σ a j = σ c j ∧ p_mc a b c d i σ b j = σ d j := by
  intro i
  induction i with
  | zero => intro j h; omega
  | succ i ih =>
    intro j h
    rw [p_mc, kUp_n hab, kUp_s, kUp_s]
    by_cases q : j = i
    · rw [q, up_s, up_s, p_mc_k σ i c h1 h2, p_mc_k σ i d h3 h4]; exact ⟨rfl, rfl⟩
    · rw [up_n q, up_n q]; exact ih j (by omega)
set_option maxRecDepth 100000 in
set_option maxHeartbeats 4000000 in
/-- snapshot() -/
theorem tM_snapshot (l : Launch) (D : va_G) (h0 : Nat) (ad : Nat → Nat) (cI cZ : ClassId) (σ : ckS) (hb : Bit (σ 0)) : ckI l yX1_snapshot cX1_snapshot 2 (some .int) (rmD 0) D (cmW h0 ad cI cZ) cI cZ [.ref h0] σ (fun r σ1 => (r = -1 ∧ ¬ σ 2 0 = 0 ∧ σ1 = σ) ∨ (σ 2 0 = 0 ∧ r = 0 ∧ σ1 2 0 = 1 ∧ (∀ j, j < 64 → σ1 3 j = σ 0 j ∧ σ1 4 j = σ 1 j) ∧ ∀ k, k ≠ 2 → k ≠ 3 → k ≠ 4 → σ1 k = σ k)) := by
  refine gg_inI (by decide) (by simp [Value.category]) (Nat.le_of_ble_eq_true rfl) ?_
  intro p e s m args below meth c A C hK
  have S := cmS (h0 := h0) (ad := ad) hK
  refine gg_lv (lv1 := [some (.ref h0), none]) rfl ?_
  refine gg_aload_n (pc := 0) C dX1_snapshot_0 rfl rfl ?_
  refine gg_getI (pc := 1) C S 2 (by decide) rfl q219 dX1_snapshot_1 ?_
  refine gg_if_eq (pc := 4) C 9 dX1_snapshot_4 (by decide) (fun h1 => ?_) (fun h1 => ?_)
  · refine gg_aload_n (pc := 9) C dX1_snapshot_9 rfl rfl ?_
    refine gg_iconst (pc := 10) (v := nI 1) C dX1_snapshot_10 (by decide) ?_
    refine gg_putI (pc := 11) C S 2 (by decide) rfl q219 rfl rfl rfl dX1_snapshot_11 ?_
    refine gg_iconst (pc := 14) (v := nI 0) C dX1_snapshot_14 (by decide) ?_
    refine gg_istore_n (pc := 15) C dX1_snapshot_15 rfl (by decide) rfl ?_
    refine gg_loop (F := GG p l e (rmD 0) s m args below meth c _ D _ A 2 0 0) 16 [] (fun i => [some (.ref h0), some (.int (nI i))]) (fun i => p_mc 3 4 0 1 i (ckUp σ 2 (fun _ => 1))) 64 (fun i hi ih => ?_)
    refine gg_iload_n (pc := 16) C dX1_snapshot_16 rfl rfl ?_
    refine gg_bipush (pc := 17) (v := nI 64) C dX1_snapshot_17 (by decide) ?_
    refine gg_icmp_geN (pc := 19) C 52 dX1_snapshot_19 (by decide) (by omega) (by omega) (fun h => ?_) (fun h => ?_)
    · obtain rfl : i = 64 := by omega
      refine gg_iconst (pc := 52) (v := nI 0) C dX1_snapshot_52 (by decide) ?_
      exact gg_iret (pc := 53) C dX1_snapshot_53 (Or.inr ⟨h1, rfl, by rw [p_mc_k _ _ _ (by omega) (by omega), kUp_s], fun j hj => by
        have z := p_mc_f (a := 3) (b := 4) (c := 0) (d := 1) (by omega) (by omega) (by omega) (by omega) (by omega) (ckUp σ 2 (fun _ => 1)) 64 j hj
        rw [kUp_n (by omega), kUp_n (by omega)] at z
        exact z, fun k a b c => by rw [p_mc_k _ _ _ b c, kUp_n a]⟩)
    · have hz : vp_nar .boolean (p_mc 3 4 0 1 i (ckUp σ 2 (fun _ => 1)) 0 i) = p_mc 3 4 0 1 i (ckUp σ 2 (fun _ => 1)) 0 i := by
        rw [p_mc_k _ _ _ (by omega) (by omega), kUp_n (by omega)]
        exact Bit.nar (hb) h
      refine gg_aload_n (pc := 22) C dX1_snapshot_22 rfl rfl ?_
      refine gg_getA (pc := 23) C S 3 (by decide) (Or.inr rfl) q220 dX1_snapshot_23 ?_
      refine gg_iload_n (pc := 26) C dX1_snapshot_26 rfl rfl ?_
      refine gg_aload_n (pc := 27) C dX1_snapshot_27 rfl rfl ?_
      refine gg_getA (pc := 28) C S 0 (by decide) (Or.inr rfl) q217 dX1_snapshot_28 ?_
      refine gg_iload_n (pc := 31) C dX1_snapshot_31 rfl rfl ?_
      refine gg_zald (pc := 32) C S 64 rfl rfl (by omega) (by decide) dX1_snapshot_32 ?_
      refine gg_zast (pc := 33) C S 64 rfl rfl (by omega) (by decide) hz dX1_snapshot_33 ?_
      refine gg_aload_n (pc := 34) C dX1_snapshot_34 rfl rfl ?_
      refine gg_getA (pc := 35) C S 4 (by decide) (Or.inl rfl) q221 dX1_snapshot_35 ?_
      refine gg_iload_n (pc := 38) C dX1_snapshot_38 rfl rfl ?_
      refine gg_aload_n (pc := 39) C dX1_snapshot_39 rfl rfl ?_
      refine gg_getA (pc := 40) C S 1 (by decide) (Or.inl rfl) q218 dX1_snapshot_40 ?_
      refine gg_iload_n (pc := 43) C dX1_snapshot_43 rfl rfl ?_
      refine gg_iald (pc := 44) C S 64 rfl rfl (by omega) (by decide) dX1_snapshot_44 ?_
      refine gg_iast (pc := 45) C S 64 rfl rfl (by omega) (by decide) dX1_snapshot_45 ?_
      refine gg_iincN (pc := 46) C dX1_snapshot_46 rfl (by decide) rfl ?_
      refine gg_goto (pc := 49) C 16 dX1_snapshot_49 (by decide) ?_
      exact ih h
  · refine gg_iconst (pc := 7) (v := -1) C dX1_snapshot_7 (by decide) ?_
    exact gg_iret (pc := 8) C dX1_snapshot_8 (Or.inl ⟨rfl, h1, rfl⟩)
set_option maxRecDepth 100000 in
set_option maxHeartbeats 4000000 in
/-- settle() -/
theorem tM_settle (l : Launch) (D : va_G) (h0 : Nat) (ad : Nat → Nat) (cI cZ : ClassId) (σ : ckS) (hb : ¬ σ 2 0 = 0 → Bit (σ 3)) : ckI l yX1_settle cX1_settle 2 (some .int) (rmD 0) D (cmW h0 ad cI cZ) cI cZ [.ref h0] σ (fun r σ1 => (r = -1 ∧ σ 2 0 = 0 ∧ σ1 = σ) ∨ (¬ σ 2 0 = 0 ∧ r = 0 ∧ σ1 2 0 = 0 ∧ (∀ j, j < 64 → σ1 5 j = σ 3 j ∧ σ1 6 j = σ 4 j) ∧ ∀ k, k ≠ 2 → k ≠ 5 → k ≠ 6 → σ1 k = σ k)) := by
  refine gg_inI (by decide) (by simp [Value.category]) (Nat.le_of_ble_eq_true rfl) ?_
  intro p e s m args below meth c A C hK
  have S := cmS (h0 := h0) (ad := ad) hK
  refine gg_lv (lv1 := [some (.ref h0), none]) rfl ?_
  refine gg_aload_n (pc := 0) C dX1_settle_0 rfl rfl ?_
  refine gg_getI (pc := 1) C S 2 (by decide) rfl q219 dX1_settle_1 ?_
  refine gg_if_ne (pc := 4) C 9 dX1_settle_4 (by decide) (fun h1 => ?_) (fun h1 => ?_)
  · refine gg_aload_n (pc := 9) C dX1_settle_9 rfl rfl ?_
    refine gg_iconst (pc := 10) (v := nI 0) C dX1_settle_10 (by decide) ?_
    refine gg_putI (pc := 11) C S 2 (by decide) rfl q219 rfl rfl rfl dX1_settle_11 ?_
    refine gg_iconst (pc := 14) (v := nI 0) C dX1_settle_14 (by decide) ?_
    refine gg_istore_n (pc := 15) C dX1_settle_15 rfl (by decide) rfl ?_
    refine gg_loop (F := GG p l e (rmD 0) s m args below meth c _ D _ A 2 0 0) 16 [] (fun i => [some (.ref h0), some (.int (nI i))]) (fun i => p_mc 5 6 3 4 i (ckUp σ 2 (fun _ => 0))) 64 (fun i hi ih => ?_)
    refine gg_iload_n (pc := 16) C dX1_settle_16 rfl rfl ?_
    refine gg_bipush (pc := 17) (v := nI 64) C dX1_settle_17 (by decide) ?_
    refine gg_icmp_geN (pc := 19) C 52 dX1_settle_19 (by decide) (by omega) (by omega) (fun h => ?_) (fun h => ?_)
    · obtain rfl : i = 64 := by omega
      refine gg_iconst (pc := 52) (v := nI 0) C dX1_settle_52 (by decide) ?_
      exact gg_iret (pc := 53) C dX1_settle_53 (Or.inr ⟨h1, rfl, by rw [p_mc_k _ _ _ (by omega) (by omega), kUp_s], fun j hj => by
        have z := p_mc_f (a := 5) (b := 6) (c := 3) (d := 4) (by omega) (by omega) (by omega) (by omega) (by omega) (ckUp σ 2 (fun _ => 0)) 64 j hj
        rw [kUp_n (by omega), kUp_n (by omega)] at z
        exact z, fun k a b c => by rw [p_mc_k _ _ _ b c, kUp_n a]⟩)
    · have hz : vp_nar .boolean (p_mc 5 6 3 4 i (ckUp σ 2 (fun _ => 0)) 3 i) = p_mc 5 6 3 4 i (ckUp σ 2 (fun _ => 0)) 3 i := by
        rw [p_mc_k _ _ _ (by omega) (by omega), kUp_n (by omega)]
        exact Bit.nar (hb h1) h
      refine gg_aload_n (pc := 22) C dX1_settle_22 rfl rfl ?_
      refine gg_getA (pc := 23) C S 5 (by decide) (Or.inr rfl) q222 dX1_settle_23 ?_
      refine gg_iload_n (pc := 26) C dX1_settle_26 rfl rfl ?_
      refine gg_aload_n (pc := 27) C dX1_settle_27 rfl rfl ?_
      refine gg_getA (pc := 28) C S 3 (by decide) (Or.inr rfl) q220 dX1_settle_28 ?_
      refine gg_iload_n (pc := 31) C dX1_settle_31 rfl rfl ?_
      refine gg_zald (pc := 32) C S 64 rfl rfl (by omega) (by decide) dX1_settle_32 ?_
      refine gg_zast (pc := 33) C S 64 rfl rfl (by omega) (by decide) hz dX1_settle_33 ?_
      refine gg_aload_n (pc := 34) C dX1_settle_34 rfl rfl ?_
      refine gg_getA (pc := 35) C S 6 (by decide) (Or.inl rfl) q223 dX1_settle_35 ?_
      refine gg_iload_n (pc := 38) C dX1_settle_38 rfl rfl ?_
      refine gg_aload_n (pc := 39) C dX1_settle_39 rfl rfl ?_
      refine gg_getA (pc := 40) C S 4 (by decide) (Or.inl rfl) q221 dX1_settle_40 ?_
      refine gg_iload_n (pc := 43) C dX1_settle_43 rfl rfl ?_
      refine gg_iald (pc := 44) C S 64 rfl rfl (by omega) (by decide) dX1_settle_44 ?_
      refine gg_iast (pc := 45) C S 64 rfl rfl (by omega) (by decide) dX1_settle_45 ?_
      refine gg_iincN (pc := 46) C dX1_settle_46 rfl (by decide) rfl ?_
      refine gg_goto (pc := 49) C 16 dX1_settle_49 (by decide) ?_
      exact ih h
  · refine gg_iconst (pc := 7) (v := -1) C dX1_settle_7 (by decide) ?_
    exact gg_iret (pc := 8) C dX1_settle_8 (Or.inl ⟨rfl, h1, rfl⟩)
def p_mcr : Nat → ckS → ckS
  | 0, σ => σ
  | i + 1, σ => pset i (p_mcr i σ 5 i) (p_mcr i σ 6 i) (p_mcr i σ)
theorem p_mcr_k (σ : ckS) : ∀ (i k : Nat), 2 ≤ k → p_mcr i σ k = σ k := by
  intro i
  induction i with
  | zero => intro k _; rfl
  | succ i ih => intro k h; rw [p_mcr, pset, kUp_n (by omega), kUp_n (by omega)]; exact ih k h
theorem p_mcr_f (σ : ckS) : ∀ (i j : Nat), j < i → p_mcr i σ 0 j = σ 5 j ∧ p_mcr i σ 1 j = σ 6 j := by
  intro i
  induction i with
  | zero => intro j h; omega
  | succ i ih =>
    intro j h
    rw [p_mcr, pset, kUp_n (by omega), kUp_s, kUp_s]
    by_cases q : j = i
    · rw [q, up_s, up_s, p_mcr_k σ i 5 (by omega), p_mcr_k σ i 6 (by omega)]; exact ⟨rfl, rfl⟩
    · rw [up_n q, up_n q]; exact ih j (by omega)
set_option maxRecDepth 100000 in
set_option maxHeartbeats 4000000 in
/-- crash() -/
theorem tM_crash (l : Launch) (D : va_G) (h0 : Nat) (ad : Nat → Nat) (cI cZ : ClassId) (σ : ckS) (hb : Bit (σ 5)) : ckV l yX1_crash cX1_crash 2 (rmD 1) D (cmW h0 ad cI cZ) cI cZ [.ref h0] σ (fun σ1 => σ1 2 0 = 0 ∧ (∀ j, j < 64 → σ1 0 j = σ 5 j ∧ σ1 1 j = σ 6 j) ∧ ∀ k, 3 ≤ k → σ1 k = σ k) := by
  refine gg_inV (by decide) (by simp [Value.category]) (Nat.le_of_ble_eq_true rfl) ?_
  intro p e s m args below meth c A C hK
  have S := cmS (h0 := h0) (ad := ad) hK
  refine gg_lv (lv1 := [some (.ref h0), none]) rfl ?_
  refine gg_aload_n (pc := 0) C dX1_crash_0 rfl rfl ?_
  refine gg_iconst (pc := 1) (v := nI 0) C dX1_crash_1 (by decide) ?_
  refine gg_putI (pc := 2) C S 2 (by decide) rfl q219 rfl rfl rfl dX1_crash_2 ?_
  refine gg_iconst (pc := 5) (v := nI 0) C dX1_crash_5 (by decide) ?_
  refine gg_istore_n (pc := 6) C dX1_crash_6 rfl (by decide) rfl ?_
  refine gg_loop (F := GG p l e (rmD 1) s m args below meth c _ D _ A 2 0 0) 7 [] (fun i => [some (.ref h0), some (.int (nI i))]) (fun i => p_mcr i (ckUp σ 2 (fun _ => 0))) 64 (fun i hi ih => ?_)
  refine gg_iload_n (pc := 7) C dX1_crash_7 rfl rfl ?_
  refine gg_bipush (pc := 8) (v := nI 64) C dX1_crash_8 (by decide) ?_
  refine gg_icmp_geN (pc := 10) C 36 dX1_crash_10 (by decide) (by omega) (by omega) (fun h => ?_) (fun h => ?_)
  · obtain rfl : i = 64 := by omega
    exact gg_vret (pc := 36) C dX1_crash_36 ⟨by rw [p_mcr_k _ _ _ (by omega), kUp_s], fun j hj => by
      have z := p_mcr_f (ckUp σ 2 (fun _ => 0)) 64 j hj
      rw [kUp_n (by omega), kUp_n (by omega)] at z
      exact z, fun k hk => by rw [p_mcr_k _ _ _ (by omega), kUp_n (by omega)]⟩
  · have hz : vp_nar .boolean (p_mcr i (ckUp σ 2 (fun _ => 0)) 5 i) = p_mcr i (ckUp σ 2 (fun _ => 0)) 5 i := by
      rw [p_mcr_k _ _ _ (by omega), kUp_n (by omega)]
      exact hb.nar h
    refine gg_aload_n (pc := 13) C dX1_crash_13 rfl rfl ?_
    refine gg_iload_n (pc := 14) C dX1_crash_14 rfl rfl ?_
    refine gg_aload_n (pc := 15) C dX1_crash_15 rfl rfl ?_
    refine gg_getA (pc := 16) C S 5 (by decide) (Or.inr rfl) q222 dX1_crash_16 ?_
    refine gg_iload_n (pc := 19) C dX1_crash_19 rfl rfl ?_
    refine gg_zald (pc := 20) C S 64 rfl rfl (by omega) (by decide) dX1_crash_20 ?_
    refine gg_aload_n (pc := 21) C dX1_crash_21 rfl rfl ?_
    refine gg_getA (pc := 22) C S 6 (by decide) (Or.inl rfl) q223 dX1_crash_22 ?_
    refine gg_iload_n (pc := 25) C dX1_crash_25 rfl rfl ?_
    refine gg_iald (pc := 26) C S 64 rfl rfl (by omega) (by decide) dX1_crash_26 ?_
    refine gg_callV (pc := 27) C S (n := 3) [.int (nI i), .int (p_mcr i (ckUp σ 2 (fun _ => 0)) 5 i), .int (p_mcr i (ckUp σ 2 (fun _ => 0)) 6 i)] (tM_set l D h0 ad cI cZ (p_mcr i (ckUp σ 2 (fun _ => 0))) (i := i) h hz (p_mcr i (ckUp σ 2 (fun _ => 0)) 6 i)) (lw_V q249 q251 qs17 q20 q252) (by decide +kernel) ⟨by decide, by decide⟩ rfl rfl rfl rfl (Nat.le_of_ble_eq_true rfl) dX1_crash_27 ⟨by decide, by decide⟩ (fun σ1 h1 => ?_)
    subst h1
    refine gg_iincN (pc := 30) C dX1_crash_30 rfl (by decide) rfl ?_
    refine gg_goto (pc := 33) C 7 dX1_crash_33 (by decide) ?_
    exact ih h
set_option maxRecDepth 100000 in
set_option maxHeartbeats 4000000 in
/-- idle(turns) -/
theorem tM_idle (l : Launch) (D : va_G) (h0 : Nat) (ad : Nat → Nat) (cI cZ : ClassId) (σ : ckS) (x : Int32) : ckV l yX1_idle cX1_idle 2 (rmD 0) D (cmW h0 ad cI cZ) cI cZ [.ref h0, .int x] σ (fun σ1 => σ1 = σ) := by
  refine gg_inV (by decide) (by simp [Value.category]) (Nat.le_of_ble_eq_true rfl) ?_
  intro p e s m args below meth c A C hK
  have S := cmS (h0 := h0) (ad := ad) hK
  refine gg_lv (lv1 := [some (.ref h0), some (.int x)]) rfl ?_
  exact gg_vret (pc := 0) C dX1_idle_0 rfl
def mkP (σ : ckS) (n i : Nat) : Bool := decide (¬ σ 0 i = 0 ∧ σ 1 i = nI n)
set_option maxRecDepth 100000 in
set_option maxHeartbeats 4000000 in
/-- keysTo(node) -/
theorem tM_keysTo (l : Launch) (D : va_G) (h0 : Nat) (ad : Nat → Nat) (cI cZ : ClassId) (σ : ckS) (x : Int32) : ckI l yX1_keysTo cX1_keysTo 4 (some .int) (rmD 1) D (cmW h0 ad cI cZ) cI cZ [.ref h0, .int x] σ (fun r σ1 => (r = -1 ∧ (¬ ∃ n, n < 16 ∧ x = nI n) ∧ σ1 = σ) ∨ (∃ n, n < 16 ∧ x = nI n ∧ r = nI (cntB (mkP σ n) 64) ∧ σ1 = σ)) := by
  refine gg_inI (by decide) (by simp [Value.category]) (Nat.le_of_ble_eq_true rfl) ?_
  intro p e s m args below meth c A C hK
  have S := cmS (h0 := h0) (ad := ad) hK
  refine gg_lv (lv1 := [some (.ref h0), some (.int x), none, none]) rfl ?_
  refine gg_iload_n (pc := 0) C dX1_keysTo_0 rfl rfl ?_
  refine gg_callS (pc := 1) C (n := 1) [.int x] (tM_badNode l x) (lw_S q246 q247 q20 q248) (by decide +kernel) ⟨by decide, by decide⟩ rfl rfl rfl rfl (Nat.le_of_ble_eq_true rfl) dX1_keysTo_1 ⟨by decide, by decide⟩ (fun r h => ?_)
  refine gg_if_eq (pc := 4) C 9 dX1_keysTo_4 (by decide) (fun h1 => ?_) (fun h1 => ?_)
  · rcases h with ⟨rfl, n, hn, rfl⟩ | ⟨rfl, hno⟩
    · refine gg_iconst (pc := 9) (v := nI 0) C dX1_keysTo_9 (by decide) ?_
      refine gg_istore_n (pc := 10) C dX1_keysTo_10 rfl (by decide) rfl ?_
      refine gg_iconst (pc := 11) (v := nI 0) C dX1_keysTo_11 (by decide) ?_
      refine gg_istore_n (pc := 12) C dX1_keysTo_12 rfl (by decide) rfl ?_
      refine gg_loop (F := GG p l e (rmD 1) s m args below meth c _ D _ A 4 0 0) 13 [] (fun i => [some (.ref h0), some (.int (nI n)), some (.int (nI (cntB (mkP σ n) i))), some (.int (nI i))]) (fun _ => σ) 64 (fun i hi ih => ?_)
      refine gg_iload_n (pc := 13) C dX1_keysTo_13 rfl rfl ?_
      refine gg_bipush (pc := 14) (v := nI 64) C dX1_keysTo_14 (by decide) ?_
      refine gg_icmp_geN (pc := 16) C 47 dX1_keysTo_16 (by decide) (by omega) (by omega) (fun h => ?_) (fun h => ?_)
      · obtain rfl : i = 64 := by omega
        refine gg_iload_n (pc := 47) C dX1_keysTo_47 rfl rfl ?_
        exact gg_iret (pc := 48) C dX1_keysTo_48 (Or.inr ⟨n, hn, rfl, rfl, rfl⟩)
      · have tl : ∀ c1, c1 = cntB (mkP σ n) (i + 1) → GG p l e (rmD 1) s m args below meth c (MQ below (va_Qi (fun r σ1 => (r = -1 ∧ (¬ ∃ n_, n_ < 16 ∧ nI n = nI n_) ∧ σ1 = σ) ∨ (∃ n_, n_ < 16 ∧ nI n = nI n_ ∧ r = nI (cntB (mkP σ n_) 64) ∧ σ1 = σ)) (ckB D (cmW h0 ad cI cZ) A) A) args s 0 0 A) D (cmW h0 ad cI cZ) A 4 0 0 41 [some (.ref h0), some (.int (nI n)), some (.int (nI c1)), some (.int (nI i))] [] σ := by
          intro c1 ec
          subst ec
          refine gg_iincN (pc := 41) C dX1_keysTo_41 rfl (by decide) rfl ?_
          refine gg_goto (pc := 44) C 13 dX1_keysTo_44 (by decide) ?_
          exact ih h
        refine gg_aload_n (pc := 19) C dX1_keysTo_19 rfl rfl ?_
        refine gg_getA (pc := 20) C S 0 (by decide) (Or.inr rfl) q217 dX1_keysTo_20 ?_
        refine gg_iload_n (pc := 23) C dX1_keysTo_23 rfl rfl ?_
        refine gg_zald (pc := 24) C S 64 rfl rfl (by omega) (by decide) dX1_keysTo_24 ?_
        refine gg_if_eq (pc := 25) C 41 dX1_keysTo_25 (by decide) (fun h2 => ?_) (fun h2 => ?_)
        · exact tl _ (by rw [cntB, if_neg (by simp [mkP, h2])])
        · refine gg_aload_n (pc := 28) C dX1_keysTo_28 rfl rfl ?_
          refine gg_getA (pc := 29) C S 1 (by decide) (Or.inl rfl) q218 dX1_keysTo_29 ?_
          refine gg_iload_n (pc := 32) C dX1_keysTo_32 rfl rfl ?_
          refine gg_iald (pc := 33) C S 64 rfl rfl (by omega) (by decide) dX1_keysTo_33 ?_
          refine gg_iload_n (pc := 34) C dX1_keysTo_34 rfl rfl ?_
          refine gg_icmp_ne (pc := 35) C 41 dX1_keysTo_35 (by decide) (fun h3 => ?_) (fun h3 => ?_)
          · exact tl _ (by rw [cntB, if_neg (by simp [mkP, h3])])
          · refine gg_iincN (pc := 38) C dX1_keysTo_38 rfl (by decide) rfl ?_
            exact tl _ (by rw [cntB, if_pos (by simp [mkP, h2, h3])])
    · exact absurd h1 (by decide)
  · rcases h with ⟨rfl, _⟩ | ⟨rfl, hno⟩
    · exact absurd rfl h1
    · refine gg_iconst (pc := 7) (v := -1) C dX1_keysTo_7 (by decide) ?_
      exact gg_iret (pc := 8) C dX1_keysTo_8 (Or.inl ⟨rfl, hno, rfl⟩)
end
section
/-! THE PLAIN LAW, second half: a view against the model's two arrays -/
/-- versions are small; a key's stamp is at most its target's version; a slot with a key holds number 0 -/
def Gd (B : Nat) (V : Nat → ckR) : Prop := (∀ n, n < 16 → ∃ v, v ≤ B ∧ V n 0 = nI v) ∧ ∀ n s, n < 16 → s < 4 → V n (5 + s) = -1 ∨ (V n (1 + s) = 0 ∧ ∃ t w v, t < 16 ∧ V n (5 + s) = nI t ∧ w ≤ v ∧ v ≤ B ∧ V n (9 + s) = nI w ∧ V t 0 = nI v)
def Mt (V : Nat → ckR) (K Hd : Nat → Int32) : Prop := ∀ n s, n < 16 → s < 4 → (∀ t, lkO V n s = some t → K (4 * n + s) = 1 ∧ Hd (4 * n + s) = nI t) ∧ (lkO V n s = none → K (4 * n + s) = 0 ∧ Hd (4 * n + s) = V n (1 + s))
theorem Gd.mono {B B1 : Nat} {V : Nat → ckR} (h : Gd B V) (hB : B ≤ B1) : Gd B1 V := by
  refine ⟨fun n hn => ?_, fun n s hn hs => ?_⟩
  · obtain ⟨v, h1, h2⟩ := h.1 n hn
    exact ⟨v, by omega, h2⟩
  · rcases h.2 n s hn hs with z | ⟨z, t, w, v, h1, h2, h3, h4, h5, h6⟩
    · exact Or.inl z
    · exact Or.inr ⟨z, t, w, v, h1, h2, h3, by omega, h5, h6⟩
theorem Gd.tv {B : Nat} {V : Nat → ckR} (h : Gd B V) : Tv V := by
  intro n s hn hs
  rcases h.2 n s hn hs with z | ⟨z, t, w, v, h1, h2, h3, h4, h5, h6⟩
  · exact Or.inl z
  · exact Or.inr ⟨t, h1, h2⟩
theorem lk_m1 {V : Nat → ckR} {n s : Nat} (h : V n (5 + s) = -1) : lkO V n s = none := by
  unfold lkO
  rw [h, if_pos (by decide)]
theorem lk_t {V : Nat → ckR} {n s t : Nat} (ht : t < 16) (h : V n (5 + s) = nI t) : lkO V n s = if V t 0 = V n (9 + s) then some t else none := by
  unfold lkO
  rw [h, if_neg (nI_pos (by omega)), nI_clamp (by omega)]
theorem at4 {i : Nat} (h : i < 64) : i / 4 < 16 ∧ i % 4 < 4 ∧ 4 * (i / 4) + i % 4 = i := by omega
theorem Mt.bit {V : Nat → ckR} {K Hd : Nat → Int32} (h : Mt V K Hd) : Bit K := by
  intro i hi
  obtain ⟨h1, h2, h3⟩ := at4 hi
  obtain ⟨a, b⟩ := h _ _ h1 h2
  rw [h3] at a b
  cases hl : lkO V (i / 4) (i % 4) with
  | none => exact Or.inl (b hl).1
  | some t => exact Or.inr (a t hl).1
theorem Mt.key {B : Nat} {V : Nat → ckR} {K Hd : Nat → Int32} (h : Mt V K Hd) (g : Gd B V) : ∀ i, i < 64 → ¬ K i = 0 → ∃ t, t < 16 ∧ Hd i = nI t := by
  intro i hi hk
  obtain ⟨h1, h2, h3⟩ := at4 hi
  obtain ⟨a, b⟩ := h _ _ h1 h2
  rw [h3] at a b
  cases hl : lkO V (i / 4) (i % 4) with
  | none => exact absurd (b hl).1 hk
  | some t => exact ⟨t, lkO_lt g.tv h1 h2 hl, (a t hl).2⟩
theorem Mt.ext {V : Nat → ckR} {K Hd K1 Hd1 : Nat → Int32} (h : Mt V K Hd) (he : ∀ i, i < 64 → K1 i = K i ∧ Hd1 i = Hd i) : Mt V K1 Hd1 := by
  intro n s hn hs
  obtain ⟨e1, e2⟩ := he (4 * n + s) (by omega)
  rw [e1, e2]
  exact h n s hn hs
section PUT
variable {P : Nat → ckR} {n s : Nat} {v t w : Int32}
theorem pu_v (hs : s < 4) (a : Nat) : updR P n (sl (P n) s v t w) a 0 = P a 0 := by
  by_cases q : a = n
  · rw [q, ur_s]
    unfold sl
    rw [if_neg (by omega), if_neg (by omega), if_neg (by omega)]
  · rw [ur_n q]
theorem pu_here (hs : s < 4) : updR P n (sl (P n) s v t w) n (1 + s) = v ∧ updR P n (sl (P n) s v t w) n (5 + s) = t ∧ updR P n (sl (P n) s v t w) n (9 + s) = w := by
  rw [ur_s]
  unfold sl
  refine ⟨?_, ?_, ?_⟩
  · rw [if_pos rfl]
  · rw [if_neg (by omega), if_pos rfl]
  · rw [if_neg (by omega), if_neg (by omega), if_pos rfl]
theorem pu_else (hs : s < 4) {n1 s1 : Nat} (hs1 : s1 < 4) (h : ¬ (n1 = n ∧ s1 = s)) : updR P n (sl (P n) s v t w) n1 (1 + s1) = P n1 (1 + s1) ∧ updR P n (sl (P n) s v t w) n1 (5 + s1) = P n1 (5 + s1) ∧ updR P n (sl (P n) s v t w) n1 (9 + s1) = P n1 (9 + s1) := by
  by_cases q : n1 = n
  · have hq : s1 ≠ s := fun z => h ⟨q, z⟩
    rw [q, ur_s]
    unfold sl
    refine ⟨?_, ?_, ?_⟩
    · rw [if_neg (by omega), if_neg (by omega), if_neg (by omega)]
    · rw [if_neg (by omega), if_neg (by omega), if_neg (by omega)]
    · rw [if_neg (by omega), if_neg (by omega), if_neg (by omega)]
  · rw [ur_n q]
    exact ⟨rfl, rfl, rfl⟩
theorem lk_cong {P P1 : Nat → ckR} {n s : Nat} (hv : ∀ a, P1 a 0 = P a 0) (h5 : P1 n (5 + s) = P n (5 + s)) (h9 : P1 n (9 + s) = P n (9 + s)) : lkO P1 n s = lkO P n s := by
  unfold lkO
  rw [h5, h9, hv]
end PUT
/-- one slot is written, in the store and in the model -/
theorem put_ok {B : Nat} {P : Nat → ckR} {K Hd : Nat → Int32} (g : Gd B P) (h : Mt P K Hd) {n s : Nat} (hn : n < 16) (hs : s < 4) {v t w k x : Int32} (hnew : (t = -1 ∧ k = 0 ∧ x = v) ∨ ∃ a, a < 16 ∧ t = nI a ∧ w = P a 0 ∧ v = 0 ∧ k = 1 ∧ x = nI a) : Gd B (updR P n (sl (P n) s v t w)) ∧ Mt (updR P n (sl (P n) s v t w)) (upd K (4 * n + s) k) (upd Hd (4 * n + s) x) := by
  refine ⟨⟨fun a ha => ?_, fun n1 s1 hn1 hs1 => ?_⟩, fun n1 s1 hn1 hs1 => ?_⟩
  · rw [pu_v hs]; exact g.1 a ha
  · by_cases q : n1 = n ∧ s1 = s
    · obtain ⟨rfl, rfl⟩ := q
      obtain ⟨e1, e5, e9⟩ := pu_here (P := P) (n := n1) (v := v) (t := t) (w := w) hs
      rw [e1, e5, e9]
      rcases hnew with ⟨z, _, _⟩ | ⟨a, ha, z1, z2, z3, _, _⟩
      · exact Or.inl z
      · obtain ⟨u, hu, eu⟩ := g.1 a ha
        exact Or.inr ⟨z3, a, u, u, ha, z1, Nat.le_refl _, hu, by rw [z2, eu], by rw [pu_v hs, eu]⟩
    · obtain ⟨e1, e5, e9⟩ := pu_else (P := P) (n := n) (v := v) (t := t) (w := w) hs hs1 q
      rw [e1, e5, e9]
      rcases g.2 n1 s1 hn1 hs1 with z | ⟨z, a, b, c, h1, h2, h3, h4, h5, h6⟩
      · exact Or.inl z
      · exact Or.inr ⟨z, a, b, c, h1, h2, h3, h4, h5, by rw [pu_v hs]; exact h6⟩
  · by_cases q : n1 = n ∧ s1 = s
    · obtain ⟨rfl, rfl⟩ := q
      obtain ⟨e1, e5, e9⟩ := pu_here (P := P) (n := n1) (v := v) (t := t) (w := w) hs
      rw [up_s, up_s, e1]
      rcases hnew with ⟨z, z1, z2⟩ | ⟨a, ha, z1, z2, z3, z4, z5⟩
      · have hl := lk_m1 (V := updR P n1 (sl (P n1) s1 v t w)) (e5.trans z)
        rw [hl]
        exact ⟨fun t h => by simp at h, fun _ => ⟨z1, z2⟩⟩
      · have hl := lk_t (V := updR P n1 (sl (P n1) s1 v t w)) ha (e5.trans z1)
        rw [e9, pu_v hs, if_pos z2.symm] at hl
        rw [hl]
        refine ⟨fun t h => ?_, fun h => by simp at h⟩
        have : a = t := by simpa using h
        rw [← this]
        exact ⟨z4, z5⟩
    · obtain ⟨e1, e5, e9⟩ := pu_else (P := P) (n := n) (v := v) (t := t) (w := w) hs hs1 q
      have hne : 4 * n1 + s1 ≠ 4 * n + s := fun z => q (by omega)
      rw [up_n hne, up_n hne, e1, lk_cong (P := P) (fun a => pu_v hs a) e5 e9]
      exact h n1 s1 hn1 hs1
/-- a node is rescinded, in the store and in the model -/
theorem rs_ok {B : Nat} (hB : B < 1000) {P : Nat → ckR} {μ μ1 : ckS} (g : Gd B P) (h : Mt P (μ 0) (μ 1)) {n : Nat} (hn : n < 16) (hm : ∀ j, j < 64 → (rsC μ n j → μ1 0 j = 0 ∧ μ1 1 j = 0) ∧ (¬ rsC μ n j → μ1 0 j = μ 0 j ∧ μ1 1 j = μ 1 j)) : Gd (B + 1) (updR P n (clr (P n 0 + 1))) ∧ Mt (updR P n (clr (P n 0 + 1))) (μ1 0) (μ1 1) := by
  obtain ⟨u, hu, eu⟩ := g.1 n hn
  have en : P n 0 + 1 = nI (u + 1) := by rw [eu]; exact nI_1 u
  rw [en]
  have e0 : updR P n (clr (nI (u + 1))) n 0 = nI (u + 1) := by rw [ur_s]; rfl
  have e1 : ∀ s, s < 4 → updR P n (clr (nI (u + 1))) n (1 + s) = 0 := fun s hs => by rw [ur_s]; unfold clr; rw [if_neg (by omega), if_pos (by omega)]
  have e5 : ∀ s, s < 4 → updR P n (clr (nI (u + 1))) n (5 + s) = -1 := fun s hs => by rw [ur_s]; unfold clr; rw [if_neg (by omega), if_neg (by omega), if_pos (by omega)]
  have eo : ∀ a, a ≠ n → updR P n (clr (nI (u + 1))) a = P a := fun a ha => ur_n ha
  refine ⟨⟨fun a ha => ?_, fun n1 s1 hn1 hs1 => ?_⟩, fun n1 s1 hn1 hs1 => ?_⟩
  · by_cases q : a = n
    · rw [q, e0]; exact ⟨u + 1, by omega, rfl⟩
    · rw [eo a q]
      obtain ⟨v, h1, h2⟩ := g.1 a ha
      exact ⟨v, by omega, h2⟩
  · by_cases q : n1 = n
    · rw [q]; exact Or.inl (e5 s1 hs1)
    · rw [eo n1 q]
      rcases g.2 n1 s1 hn1 hs1 with z | ⟨z, t, w, v, h1, h2, h3, h4, h5, h6⟩
      · exact Or.inl z
      · by_cases qt : t = n
        · subst qt
          have : u = v := (nI_eq (by omega) (by omega)).mp (by rw [← eu, h6])
          exact Or.inr ⟨z, t, w, u + 1, h1, h2, by omega, by omega, h5, e0⟩
        · exact Or.inr ⟨z, t, w, v, h1, h2, h3, by omega, h5, by rw [eo t qt]; exact h6⟩
  · obtain ⟨m1, m2⟩ := hm (4 * n1 + s1) (by omega)
    obtain ⟨a, b⟩ := h n1 s1 hn1 hs1
    have hd : (4 * n1 + s1) / 4 = n1 := by omega
    by_cases q : n1 = n
    · have hr : rsC μ n (4 * n1 + s1) := Or.inl (by rw [hd, q])
      obtain ⟨z1, z2⟩ := m1 hr
      rw [z1, z2, q, lk_m1 (e5 s1 hs1), e1 s1 hs1]
      exact ⟨fun t h => by simp at h, fun _ => ⟨rfl, rfl⟩⟩
    · rcases g.2 n1 s1 hn1 hs1 with z | ⟨z, t, w, v, h1, h2, h3, h4, h5, h6⟩
      · have hl := lk_m1 z
        obtain ⟨k0, k1⟩ := b hl
        have hr : ¬ rsC μ n (4 * n1 + s1) := fun y => by
          rcases y with y | ⟨y, _⟩
          · rw [hd] at y; exact q y
          · exact y k0
        obtain ⟨z1, z2⟩ := m2 hr
        rw [z1, z2, lk_m1 (by rw [eo n1 q]; exact z), eo n1 q, k0, k1]
        exact ⟨fun t h => by simp at h, fun _ => ⟨rfl, rfl⟩⟩
      · have hl := lk_t h1 h2
        by_cases qt : t = n
        · subst qt
          have huv : u = v := (nI_eq (by omega) (by omega)).mp (by rw [← eu, h6])
          have hn2 : lkO (updR P t (clr (nI (u + 1)))) n1 s1 = none := by
            rw [lk_t h1 (by rw [eo n1 q]; exact h2), e0, eo n1 q, h5, if_neg (fun y => by have := (nI_eq (by omega) (by omega)).mp y; omega)]
          rw [hn2]
          refine ⟨fun t h => by simp at h, fun _ => ?_⟩
          rw [eo n1 q, z]
          by_cases hr : rsC μ t (4 * n1 + s1)
          · exact m1 hr
          · obtain ⟨z1, z2⟩ := m2 hr
            rw [z1, z2]
            cases hl2 : lkO P n1 s1 with
            | none =>
              obtain ⟨k0, k1⟩ := b hl2
              exact ⟨k0, by rw [k1, z]⟩
            | some t2 =>
              have ht2 : t2 = t := by
                rw [hl2] at hl
                split at hl
                · simpa using hl
                · simp at hl
              obtain ⟨k0, k1⟩ := a t2 hl2
              exact absurd (Or.inr ⟨by rw [k0]; exact i_10, by rw [k1, ht2]⟩) hr
        · have hl2 : lkO (updR P n (clr (nI (u + 1)))) n1 s1 = lkO P n1 s1 := by
            rw [lk_t h1 (by rw [eo n1 q]; exact h2), hl, eo t qt, eo n1 q]
          have hr : ¬ rsC μ n (4 * n1 + s1) := fun y => by
            rcases y with y | ⟨y, y2⟩
            · rw [hd] at y; exact q y
            · cases hl3 : lkO P n1 s1 with
              | none => exact y (b hl3).1
              | some t2 =>
                have ht2 : t2 = t := by
                  rw [hl3] at hl
                  split at hl
                  · simpa using hl
                  · simp at hl
                rw [(a t2 hl3).2, ht2] at y2
                exact qt (n_inj h1 hn y2)
          obtain ⟨z1, z2⟩ := m2 hr
          rw [z1, z2, hl2, eo n1 q]
          exact ⟨a, b⟩
theorem ky_eq {P : Nat → ckR} {μ : ckS} (h : Mt P (μ 0) (μ 1)) {n s : Nat} (hn : n < 16) (hs : s < 4) : kyO (lkO P n s) = if μ 0 (4 * n + s) = 0 then -2 else μ 1 (4 * n + s) := by
  obtain ⟨a, b⟩ := h n s hn hs
  cases hl : lkO P n s with
  | none => rw [if_pos (b hl).1]; rfl
  | some t => rw [if_neg (by rw [(a t hl).1]; exact i_10), (a t hl).2]; rfl
theorem nm_eq {B : Nat} {P : Nat → ckR} {μ : ckS} (g : Gd B P) (h : Mt P (μ 0) (μ 1)) {n s : Nat} (hn : n < 16) (hs : s < 4) : P n (1 + s) = if μ 0 (4 * n + s) = 0 then μ 1 (4 * n + s) else 0 := by
  obtain ⟨a, b⟩ := h n s hn hs
  cases hl : lkO P n s with
  | none => rw [if_pos (b hl).1, (b hl).2]
  | some t =>
    rw [if_neg (by rw [(a t hl).1]; exact i_10)]
    rcases g.2 n s hn hs with z | ⟨z, _⟩
    · rw [lk_m1 z] at hl; simp at hl
    · exact z
theorem fl_eq {B : Nat} {P : Nat → ckR} {μ : ckS} (g : Gd B P) (h : Mt P (μ 0) (μ 1)) {s : Nat} (hs : s < 4) : ∀ (k a : Nat), a < 16 → flw (fun a => lkO P a s) k a = flw (mkO μ s) k a := by
  intro k
  induction k with
  | zero => intro a _; rfl
  | succ k ih =>
    intro a ha
    obtain ⟨x, y⟩ := h a s ha hs
    cases hl : lkO P a s with
    | none =>
      have e : mkO μ s a = none := by unfold mkO; rw [if_pos (y hl).1]
      simp only [flw, hl, e]
    | some t =>
      have ht := lkO_lt g.tv ha hs hl
      have e : mkO μ s a = some t := by unfold mkO; rw [if_neg (by rw [(x t hl).1]; exact i_10), (x t hl).2, nI_clamp (by omega)]
      simp only [flw, hl, e]
      exact ih t ht
theorem cnt_cong {p q : Nat → Bool} : ∀ k, (∀ i, i < k → p i = q i) → cntB p k = cntB q k := by
  intro k
  induction k with
  | zero => intro _; rfl
  | succ k ih => intro h; rw [cntB, cntB, h k (by omega), ih (fun i hi => h i (by omega))]
theorem kt_eq {B : Nat} {P : Nat → ckR} {μ : ckS} (g : Gd B P) (h : Mt P (μ 0) (μ 1)) {n : Nat} (hn : n < 16) : cntB (kyP P n) 64 = cntB (mkP μ n) 64 := by
  refine cnt_cong 64 (fun i hi => ?_)
  obtain ⟨h1, h2, h3⟩ := at4 hi
  obtain ⟨a, b⟩ := h _ _ h1 h2
  rw [h3] at a b
  unfold kyP mkP
  refine decide_eq_decide.mpr ?_
  rcases g.2 _ _ h1 h2 with z | ⟨z, t, w, v, g1, g2, g3, g4, g5, g6⟩
  · have k0 := (b (lk_m1 z)).1
    exact ⟨fun y => by rw [z] at y; exact absurd y.1.symm (n_m1 hn), fun y => absurd k0 y.1⟩
  · have hl := lk_t g1 g2
    constructor
    · intro y
      have ht : t = n := n_inj g1 hn (by rw [← g2]; exact y.1)
      rw [ht, if_pos y.2.symm] at hl
      obtain ⟨k0, k1⟩ := a n hl
      exact ⟨by rw [k0]; exact i_10, k1⟩
    · intro y
      by_cases q : P t 0 = P (i / 4) (9 + i % 4)
      · rw [if_pos q] at hl
        obtain ⟨k0, k1⟩ := a t hl
        have ht : t = n := n_inj g1 hn (by rw [← k1]; exact y.2)
        rw [← ht]
        exact ⟨g2, q.symm⟩
      · rw [if_neg q] at hl
        exact absurd (b hl).1 y.1
/-- the relation between the two machines' states, after B calls -/
def RelV (μ : ckS) (op : Option Nat) (P O S : Nat → ckR) (B : Nat) : Prop := Gd B P ∧ Mt P (μ 0) (μ 1) ∧ Gd B S ∧ Mt S (μ 5) (μ 6) ∧ ((op = none ∧ μ 2 0 = 0) ∨ (op ≠ none ∧ μ 2 0 = 1 ∧ Gd B O ∧ Mt O (μ 3) (μ 4)))
def Rel (σ μ : ckS) (B : Nat) : Prop := ∃ mk op pl P O S, ckInv σ mk op pl P O S ∧ RelV μ op P O S B
theorem RelV.mono {μ : ckS} {op : Option Nat} {P O S : Nat → ckR} {B B1 : Nat} (h : RelV μ op P O S B) (hB : B ≤ B1) : RelV μ op P O S B1 := by
  obtain ⟨h1, h2, h3, h4, h5⟩ := h
  refine ⟨h1.mono hB, h2, h3.mono hB, h4, ?_⟩
  rcases h5 with z | ⟨z1, z2, z3, z4⟩
  · exact Or.inl z
  · exact Or.inr ⟨z1, z2, z3.mono hB, z4⟩
/-- only the present view changes -/
theorem RelV.put {μ μ1 : ckS} {op : Option Nat} {P P1 O S : Nat → ckR} {B : Nat} (h : RelV μ op P O S B) (g : Gd (B + 1) P1) (m : Mt P1 (μ1 0) (μ1 1)) (hk : ∀ k, 2 ≤ k → μ1 k = μ k) : RelV μ1 op P1 O S (B + 1) := by
  obtain ⟨h1, h2, h3, h4, h5⟩ := h.mono (Nat.le_succ B)
  refine ⟨g, m, h3, by rw [hk 5 (by omega), hk 6 (by omega)]; exact h4, ?_⟩
  rw [hk 2 (by omega), hk 3 (by omega), hk 4 (by omega)]
  exact h5
end
section
/-! ONE CALL on both sides: the answers agree, the relation holds after it -/
theorem pset_k (i : Nat) (k v : Int32) (μ : ckS) (j : Nat) (h : 2 ≤ j) : pset i k v μ j = μ j := by
  unfold pset
  rw [kUp_n (by omega), kUp_n (by omega)]
section REL
variable {σ1 μ μ1 : ckS} {mk op : Option Nat} {pl : Nat} {P O S : Nat → ckR} {B : Nat} {r r1 : Int32}
theorem rel_same (hV : RelV μ op P O S B) (i1 : ckInv σ1 mk op pl P O S) (e : μ1 = μ) : Rel σ1 μ1 (B + 1) := by
  subst e
  exact ⟨mk, op, pl, P, O, S, i1, hV.mono (Nat.le_succ B)⟩
theorem rel_write (hV : RelV μ op P O S B) (x y v : Int32) (h1 : (r = -1 ∧ (¬ ∃ n s1, n < 16 ∧ s1 < 4 ∧ x = nI n ∧ y = nI s1) ∧ ckInv σ1 mk op pl P O S) ∨ (∃ n s1, n < 16 ∧ s1 < 4 ∧ x = nI n ∧ y = nI s1 ∧ r = 0 ∧ ckInv σ1 mk op pl (updR P n (sl (P n) s1 v (-1) 0)) O S)) (h2 : (r1 = -1 ∧ (¬ ∃ n s1, n < 16 ∧ s1 < 4 ∧ x = nI n ∧ y = nI s1) ∧ μ1 = μ) ∨ (∃ n s1, n < 16 ∧ s1 < 4 ∧ x = nI n ∧ y = nI s1 ∧ r1 = 0 ∧ μ1 = pset (4 * n + s1) 0 v μ)) : r = r1 ∧ Rel σ1 μ1 (B + 1) := by
  rcases h1 with ⟨e1, hno, i1⟩ | h1
  · rcases h2 with ⟨e2, _, e3⟩ | h2
    · exact ⟨by rw [e1, e2], rel_same hV i1 e3⟩
    · obtain ⟨n, s1, a0, a1, a2, a3, _⟩ := h2
      exact absurd ⟨n, s1, a0, a1, a2, a3⟩ hno
  · rcases h2 with ⟨e2, hno, e3⟩ | h2
    · obtain ⟨n, s1, a0, a1, a2, a3, _⟩ := h1
      exact absurd ⟨n, s1, a0, a1, a2, a3⟩ hno
    · obtain ⟨n, s1, hn, hs, rfl, rfl, e1, i1⟩ := h1
      obtain ⟨n', s', hn', hs', f1, f2, e2, rfl⟩ := h2
      obtain rfl := n_inj hn hn' f1
      obtain rfl := n_inj (by omega) (by omega) f2
      obtain ⟨g, m⟩ := put_ok hV.1 hV.2.1 hn hs (v := v) (t := -1) (w := 0) (k := 0) (x := v) (Or.inl ⟨rfl, rfl, rfl⟩)
      exact ⟨by rw [e1, e2], mk, op, pl, _, O, S, i1, hV.put (g.mono (Nat.le_succ B)) m (pset_k _ _ _ μ)⟩
theorem rel_writeKey (hV : RelV μ op P O S B) (x y z : Int32) (h1 : (r = -1 ∧ (¬ ∃ n s1 t, n < 16 ∧ s1 < 4 ∧ t < 16 ∧ x = nI n ∧ y = nI s1 ∧ z = nI t) ∧ ckInv σ1 mk op pl P O S) ∨ (∃ n s1 t, n < 16 ∧ s1 < 4 ∧ t < 16 ∧ x = nI n ∧ y = nI s1 ∧ z = nI t ∧ r = 0 ∧ ckInv σ1 mk op pl (updR P n (sl (P n) s1 0 (nI t) (P t 0))) O S)) (h2 : (r1 = -1 ∧ (¬ ∃ n s1 t, n < 16 ∧ s1 < 4 ∧ t < 16 ∧ x = nI n ∧ y = nI s1 ∧ z = nI t) ∧ μ1 = μ) ∨ (∃ n s1 t, n < 16 ∧ s1 < 4 ∧ t < 16 ∧ x = nI n ∧ y = nI s1 ∧ z = nI t ∧ r1 = 0 ∧ μ1 = pset (4 * n + s1) 1 (nI t) μ)) : r = r1 ∧ Rel σ1 μ1 (B + 1) := by
  rcases h1 with ⟨e1, hno, i1⟩ | h1
  · rcases h2 with ⟨e2, _, e3⟩ | h2
    · exact ⟨by rw [e1, e2], rel_same hV i1 e3⟩
    · obtain ⟨n, s1, t, a0, a1, a2, a3, a4, a5, _⟩ := h2
      exact absurd ⟨n, s1, t, a0, a1, a2, a3, a4, a5⟩ hno
  · rcases h2 with ⟨e2, hno, e3⟩ | h2
    · obtain ⟨n, s1, t, a0, a1, a2, a3, a4, a5, _⟩ := h1
      exact absurd ⟨n, s1, t, a0, a1, a2, a3, a4, a5⟩ hno
    · obtain ⟨n, s1, t, hn, hs, ht, rfl, rfl, rfl, e1, i1⟩ := h1
      obtain ⟨n', s', t', hn', hs', ht', f1, f2, f3, e2, rfl⟩ := h2
      obtain rfl := n_inj hn hn' f1
      obtain rfl := n_inj (by omega) (by omega) f2
      obtain rfl := n_inj ht ht' f3
      obtain ⟨g, m⟩ := put_ok hV.1 hV.2.1 hn hs (v := 0) (t := nI t) (w := P t 0) (k := 1) (x := nI t) (Or.inr ⟨t, ht, rfl, rfl, rfl, rfl, rfl⟩)
      exact ⟨by rw [e1, e2], mk, op, pl, _, O, S, i1, hV.put (g.mono (Nat.le_succ B)) m (pset_k _ _ _ μ)⟩
theorem rel_copy (hV : RelV μ op P O S B) (x y x2 y2 : Int32) (h1 : (r = -1 ∧ (¬ ∃ n s1 n2 s2, n < 16 ∧ s1 < 4 ∧ n2 < 16 ∧ s2 < 4 ∧ x = nI n ∧ y = nI s1 ∧ x2 = nI n2 ∧ y2 = nI s2) ∧ ckInv σ1 mk op pl P O S) ∨ (∃ n s1 n2 s2, n < 16 ∧ s1 < 4 ∧ n2 < 16 ∧ s2 < 4 ∧ x = nI n ∧ y = nI s1 ∧ x2 = nI n2 ∧ y2 = nI s2 ∧ r = 0 ∧ ckInv σ1 mk op pl (updR P n2 (sl (P n2) s2 (P n (1 + s1)) (oI (lkO P n s1)) (stO P (lkO P n s1)))) O S)) (h2 : (r1 = -1 ∧ (¬ ∃ n s1 n2 s2, n < 16 ∧ s1 < 4 ∧ n2 < 16 ∧ s2 < 4 ∧ x = nI n ∧ y = nI s1 ∧ x2 = nI n2 ∧ y2 = nI s2) ∧ μ1 = μ) ∨ (∃ n s1 n2 s2, n < 16 ∧ s1 < 4 ∧ n2 < 16 ∧ s2 < 4 ∧ x = nI n ∧ y = nI s1 ∧ x2 = nI n2 ∧ y2 = nI s2 ∧ r1 = 0 ∧ μ1 = pset (4 * n2 + s2) (μ 0 (4 * n + s1)) (μ 1 (4 * n + s1)) μ)) : r = r1 ∧ Rel σ1 μ1 (B + 1) := by
  rcases h1 with ⟨e1, hno, i1⟩ | h1
  · rcases h2 with ⟨e2, _, e3⟩ | h2
    · exact ⟨by rw [e1, e2], rel_same hV i1 e3⟩
    · obtain ⟨n, s1, n2, s2, a0, a1, a2, a3, a4, a5, a6, a7, _⟩ := h2
      exact absurd ⟨n, s1, n2, s2, a0, a1, a2, a3, a4, a5, a6, a7⟩ hno
  · rcases h2 with ⟨e2, hno, e3⟩ | h2
    · obtain ⟨n, s1, n2, s2, a0, a1, a2, a3, a4, a5, a6, a7, _⟩ := h1
      exact absurd ⟨n, s1, n2, s2, a0, a1, a2, a3, a4, a5, a6, a7⟩ hno
    · obtain ⟨n, s1, n2, s2, hn, hs, hn2, hs2, rfl, rfl, rfl, rfl, e1, i1⟩ := h1
      obtain ⟨n', s', n2', s2', hn', hs', hn2', hs2', f1, f2, f3, f4, e2, rfl⟩ := h2
      obtain rfl := n_inj hn hn' f1
      obtain rfl := n_inj (by omega) (by omega) f2
      obtain rfl := n_inj hn2 hn2' f3
      obtain rfl := n_inj (by omega) (by omega) f4
      obtain ⟨a, b⟩ := hV.2.1 n s1 hn hs
      obtain ⟨g, m⟩ := put_ok hV.1 hV.2.1 hn2 hs2 (v := P n (1 + s1)) (t := oI (lkO P n s1)) (w := stO P (lkO P n s1)) (k := μ 0 (4 * n + s1)) (x := μ 1 (4 * n + s1)) (by
        cases hl : lkO P n s1 with
        | none => exact Or.inl ⟨rfl, (b hl).1, (b hl).2⟩
        | some t =>
          refine Or.inr ⟨t, lkO_lt hV.1.tv hn hs hl, rfl, rfl, ?_, (a t hl).1, (a t hl).2⟩
          rcases hV.1.2 n s1 hn hs with z | ⟨z, _⟩
          · rw [lk_m1 z] at hl; simp at hl
          · exact z)
      exact ⟨by rw [e1, e2], mk, op, pl, _, O, S, i1, hV.put (g.mono (Nat.le_succ B)) m (pset_k _ _ _ μ)⟩
theorem rel_rescind (hV : RelV μ op P O S B) (hB : B < 1000) (x : Int32) (h1 : (r = -1 ∧ (¬ ∃ n, n < 16 ∧ x = nI n) ∧ ckInv σ1 mk op pl P O S) ∨ (∃ n, n < 16 ∧ x = nI n ∧ r = 0 ∧ ckInv σ1 mk op pl (updR P n (clr (P n 0 + 1))) O S)) (h2 : (r1 = -1 ∧ (¬ ∃ n, n < 16 ∧ x = nI n) ∧ μ1 = μ) ∨ (∃ n, n < 16 ∧ x = nI n ∧ r1 = 0 ∧ (∀ j, j < 64 → (rsC μ n j → μ1 0 j = 0 ∧ μ1 1 j = 0) ∧ (¬ rsC μ n j → μ1 0 j = μ 0 j ∧ μ1 1 j = μ 1 j)) ∧ ∀ k, 2 ≤ k → μ1 k = μ k)) : r = r1 ∧ Rel σ1 μ1 (B + 1) := by
  rcases h1 with ⟨e1, hno, i1⟩ | h1
  · rcases h2 with ⟨e2, _, e3⟩ | h2
    · exact ⟨by rw [e1, e2], rel_same hV i1 e3⟩
    · obtain ⟨n, a0, a1, _⟩ := h2
      exact absurd ⟨n, a0, a1⟩ hno
  · rcases h2 with ⟨e2, hno, e3⟩ | h2
    · obtain ⟨n, a0, a1, _⟩ := h1
      exact absurd ⟨n, a0, a1⟩ hno
    · obtain ⟨n, hn, rfl, e1, i1⟩ := h1
      obtain ⟨n', hn', f1, e2, hm, hk⟩ := h2
      obtain rfl := n_inj hn hn' f1
      obtain ⟨g, m⟩ := rs_ok hB hV.1 hV.2.1 hn hm
      exact ⟨by rw [e1, e2], mk, op, pl, _, O, S, i1, hV.put g m hk⟩
theorem rel_key (hV : RelV μ op P O S B) (x y : Int32) (h1 : (r = -1 ∧ (¬ ∃ n s1, n < 16 ∧ s1 < 4 ∧ x = nI n ∧ y = nI s1) ∧ ckInv σ1 mk op pl P O S) ∨ (∃ n s1, n < 16 ∧ s1 < 4 ∧ x = nI n ∧ y = nI s1 ∧ r = kyO (lkO P n s1) ∧ ckInv σ1 mk op pl P O S)) (h2 : (r1 = -1 ∧ (¬ ∃ n s1, n < 16 ∧ s1 < 4 ∧ x = nI n ∧ y = nI s1) ∧ μ1 = μ) ∨ (∃ n s1, n < 16 ∧ s1 < 4 ∧ x = nI n ∧ y = nI s1 ∧ r1 = (if μ 0 (4 * n + s1) = 0 then -2 else μ 1 (4 * n + s1)) ∧ μ1 = μ)) : r = r1 ∧ Rel σ1 μ1 (B + 1) := by
  rcases h1 with ⟨e1, hno, i1⟩ | h1
  · rcases h2 with ⟨e2, _, e3⟩ | h2
    · exact ⟨by rw [e1, e2], rel_same hV i1 e3⟩
    · obtain ⟨n, s1, a0, a1, a2, a3, _⟩ := h2
      exact absurd ⟨n, s1, a0, a1, a2, a3⟩ hno
  · rcases h2 with ⟨e2, hno, e3⟩ | h2
    · obtain ⟨n, s1, a0, a1, a2, a3, _⟩ := h1
      exact absurd ⟨n, s1, a0, a1, a2, a3⟩ hno
    · obtain ⟨n, s1, hn, hs, rfl, rfl, e1, i1⟩ := h1
      obtain ⟨n', s', hn', hs', f1, f2, e2, e3⟩ := h2
      obtain rfl := n_inj hn hn' f1
      obtain rfl := n_inj (by omega) (by omega) f2
      exact ⟨by rw [e1, e2]; exact ky_eq hV.2.1 hn hs, rel_same hV i1 e3⟩
theorem rel_number (hV : RelV μ op P O S B) (x y : Int32) (h1 : (r = 0 ∧ (¬ ∃ n s1, n < 16 ∧ s1 < 4 ∧ x = nI n ∧ y = nI s1) ∧ ckInv σ1 mk op pl P O S) ∨ (∃ n s1, n < 16 ∧ s1 < 4 ∧ x = nI n ∧ y = nI s1 ∧ r = P n (1 + s1) ∧ ckInv σ1 mk op pl P O S)) (h2 : (r1 = 0 ∧ (¬ ∃ n s1, n < 16 ∧ s1 < 4 ∧ x = nI n ∧ y = nI s1) ∧ μ1 = μ) ∨ (∃ n s1, n < 16 ∧ s1 < 4 ∧ x = nI n ∧ y = nI s1 ∧ r1 = (if μ 0 (4 * n + s1) = 0 then μ 1 (4 * n + s1) else 0) ∧ μ1 = μ)) : r = r1 ∧ Rel σ1 μ1 (B + 1) := by
  rcases h1 with ⟨e1, hno, i1⟩ | h1
  · rcases h2 with ⟨e2, _, e3⟩ | h2
    · exact ⟨by rw [e1, e2], rel_same hV i1 e3⟩
    · obtain ⟨n, s1, a0, a1, a2, a3, _⟩ := h2
      exact absurd ⟨n, s1, a0, a1, a2, a3⟩ hno
  · rcases h2 with ⟨e2, hno, e3⟩ | h2
    · obtain ⟨n, s1, a0, a1, a2, a3, _⟩ := h1
      exact absurd ⟨n, s1, a0, a1, a2, a3⟩ hno
    · obtain ⟨n, s1, hn, hs, rfl, rfl, e1, i1⟩ := h1
      obtain ⟨n', s', hn', hs', f1, f2, e2, e3⟩ := h2
      obtain rfl := n_inj hn hn' f1
      obtain rfl := n_inj (by omega) (by omega) f2
      exact ⟨by rw [e1, e2]; exact nm_eq hV.1 hV.2.1 hn hs, rel_same hV i1 e3⟩
theorem rel_follow (hV : RelV μ op P O S B) (x y k : Int32) (h1 : (r = -1 ∧ (¬ ∃ n s1, n < 16 ∧ s1 < 4 ∧ x = nI n ∧ y = nI s1) ∧ ckInv σ1 mk op pl P O S) ∨ (∃ n s1, n < 16 ∧ s1 < 4 ∧ x = nI n ∧ y = nI s1 ∧ r = flw (fun a => lkO P a s1) (stp k) n ∧ ckInv σ1 mk op pl P O S)) (h2 : (r1 = -1 ∧ (¬ ∃ n s1, n < 16 ∧ s1 < 4 ∧ x = nI n ∧ y = nI s1) ∧ μ1 = μ) ∨ (∃ n s1, n < 16 ∧ s1 < 4 ∧ x = nI n ∧ y = nI s1 ∧ r1 = flw (mkO μ s1) (stp k) n ∧ μ1 = μ)) : r = r1 ∧ Rel σ1 μ1 (B + 1) := by
  rcases h1 with ⟨e1, hno, i1⟩ | h1
  · rcases h2 with ⟨e2, _, e3⟩ | h2
    · exact ⟨by rw [e1, e2], rel_same hV i1 e3⟩
    · obtain ⟨n, s1, a0, a1, a2, a3, _⟩ := h2
      exact absurd ⟨n, s1, a0, a1, a2, a3⟩ hno
  · rcases h2 with ⟨e2, hno, e3⟩ | h2
    · obtain ⟨n, s1, a0, a1, a2, a3, _⟩ := h1
      exact absurd ⟨n, s1, a0, a1, a2, a3⟩ hno
    · obtain ⟨n, s1, hn, hs, rfl, rfl, e1, i1⟩ := h1
      obtain ⟨n', s', hn', hs', f1, f2, e2, e3⟩ := h2
      obtain rfl := n_inj hn hn' f1
      obtain rfl := n_inj (by omega) (by omega) f2
      exact ⟨by rw [e1, e2]; exact fl_eq hV.1 hV.2.1 hs (stp k) n hn, rel_same hV i1 e3⟩
theorem rel_keysTo (hV : RelV μ op P O S B) (x : Int32) (h1 : (r = -1 ∧ (¬ ∃ n, n < 16 ∧ x = nI n) ∧ ckInv σ1 mk op pl P O S) ∨ (∃ n, n < 16 ∧ x = nI n ∧ r = nI (cntB (kyP P n) 64) ∧ ckInv σ1 mk op pl P O S)) (h2 : (r1 = -1 ∧ (¬ ∃ n, n < 16 ∧ x = nI n) ∧ μ1 = μ) ∨ (∃ n, n < 16 ∧ x = nI n ∧ r1 = nI (cntB (mkP μ n) 64) ∧ μ1 = μ)) : r = r1 ∧ Rel σ1 μ1 (B + 1) := by
  rcases h1 with ⟨e1, hno, i1⟩ | h1
  · rcases h2 with ⟨e2, _, e3⟩ | h2
    · exact ⟨by rw [e1, e2], rel_same hV i1 e3⟩
    · obtain ⟨n, a0, a1, _⟩ := h2
      exact absurd ⟨n, a0, a1⟩ hno
  · rcases h2 with ⟨e2, hno, e3⟩ | h2
    · obtain ⟨n, a0, a1, _⟩ := h1
      exact absurd ⟨n, a0, a1⟩ hno
    · obtain ⟨n, hn, rfl, e1, i1⟩ := h1
      obtain ⟨n', hn', f1, e2, e3⟩ := h2
      obtain rfl := n_inj hn hn' f1
      exact ⟨by rw [e1, e2]; exact (by rw [kt_eq hV.1 hV.2.1 hn]), rel_same hV i1 e3⟩
theorem rel_snapshot (hV : RelV μ op P O S B) (h1 : (r = -1 ∧ op ≠ none ∧ ckInv σ1 mk op pl P O S) ∨ (op = none ∧ r = 0 ∧ ∃ q, ckInv σ1 mk (some pl) q P P S)) (h2 : (r1 = -1 ∧ ¬ μ 2 0 = 0 ∧ μ1 = μ) ∨ (μ 2 0 = 0 ∧ r1 = 0 ∧ μ1 2 0 = 1 ∧ (∀ j, j < 64 → μ1 3 j = μ 0 j ∧ μ1 4 j = μ 1 j) ∧ ∀ k, k ≠ 2 → k ≠ 3 → k ≠ 4 → μ1 k = μ k)) : r = r1 ∧ Rel σ1 μ1 (B + 1) := by
  have hM := hV.mono (Nat.le_succ B)
  rcases h1 with ⟨e1, ho, i1⟩ | ⟨ho, e1, q, i1⟩
  · rcases h2 with ⟨e2, _, e3⟩ | ⟨z, _⟩
    · exact ⟨by rw [e1, e2], rel_same hV i1 e3⟩
    · rcases hV.2.2.2.2 with ⟨y, _⟩ | ⟨_, y, _⟩
      · exact absurd y ho
      · rw [y] at z; exact absurd z i_10
  · rcases h2 with ⟨_, z, _⟩ | ⟨_, e2, m2, mc, mk1⟩
    · rcases hV.2.2.2.2 with ⟨_, y⟩ | ⟨y, _⟩
      · exact absurd y z
      · exact absurd ho y
    · refine ⟨by rw [e1, e2], mk, some pl, q, P, P, S, i1, hM.1, ?_, hM.2.2.1, ?_, Or.inr ⟨by simp, m2, hM.1, hM.2.1.ext mc⟩⟩
      · rw [mk1 0 (by omega) (by omega) (by omega), mk1 1 (by omega) (by omega) (by omega)]; exact hM.2.1
      · rw [mk1 5 (by omega) (by omega) (by omega), mk1 6 (by omega) (by omega) (by omega)]; exact hM.2.2.2.1
theorem rel_settle (hV : RelV μ op P O S B) (h1 : (r = -1 ∧ op = none ∧ ckInv σ1 mk op pl P O S) ∨ (op ≠ none ∧ r = 0 ∧ ckInv σ1 op none pl P O O)) (h2 : (r1 = -1 ∧ μ 2 0 = 0 ∧ μ1 = μ) ∨ (¬ μ 2 0 = 0 ∧ r1 = 0 ∧ μ1 2 0 = 0 ∧ (∀ j, j < 64 → μ1 5 j = μ 3 j ∧ μ1 6 j = μ 4 j) ∧ ∀ k, k ≠ 2 → k ≠ 5 → k ≠ 6 → μ1 k = μ k)) : r = r1 ∧ Rel σ1 μ1 (B + 1) := by
  have hM := hV.mono (Nat.le_succ B)
  rcases h1 with ⟨e1, ho, i1⟩ | ⟨ho, e1, i1⟩
  · rcases h2 with ⟨e2, _, e3⟩ | ⟨z, _⟩
    · exact ⟨by rw [e1, e2], rel_same hV i1 e3⟩
    · rcases hV.2.2.2.2 with ⟨_, y⟩ | ⟨y, _⟩
      · exact absurd y z
      · exact absurd ho y
  · rcases h2 with ⟨_, z, _⟩ | ⟨_, e2, m2, mc, mk1⟩
    · rcases hV.2.2.2.2 with ⟨y, _⟩ | ⟨_, y, _⟩
      · exact absurd y ho
      · rw [y] at z; exact absurd z i_10
    · rcases hM.2.2.2.2 with ⟨y, _⟩ | ⟨_, _, gO, mO⟩
      · exact absurd y ho
      · refine ⟨by rw [e1, e2], op, none, pl, P, O, O, i1, hM.1, ?_, gO, mO.ext mc, Or.inl ⟨rfl, m2⟩⟩
        rw [mk1 0 (by omega) (by omega) (by omega), mk1 1 (by omega) (by omega) (by omega)]; exact hM.2.1
theorem rel_crash (hV : RelV μ op P O S B) {q : Nat} (i1 : ckInv σ1 mk none q S O S) (h2 : μ1 2 0 = 0 ∧ (∀ j, j < 64 → μ1 0 j = μ 5 j ∧ μ1 1 j = μ 6 j) ∧ ∀ k, 3 ≤ k → μ1 k = μ k) : Rel σ1 μ1 (B + 1) := by
  have hM := hV.mono (Nat.le_succ B)
  obtain ⟨m2, mc, mk1⟩ := h2
  refine ⟨mk, none, q, S, O, S, i1, hM.2.2.1, hM.2.2.2.1.ext mc, hM.2.2.1, ?_, Or.inl ⟨rfl, m2⟩⟩
  rw [mk1 5 (by omega), mk1 6 (by omega)]; exact hM.2.2.2.1
end REL
/-- the views of a new store: versions 0, no keys, numbers 0 -/
def P0 : Nat → ckR := fun _ => clr 0
theorem P0_1 {s : Nat} (hs : s < 4) (n : Nat) : P0 n (1 + s) = 0 := by unfold P0 clr; rw [if_neg (by omega), if_pos (by omega)]
theorem P0_5 {s : Nat} (hs : s < 4) (n : Nat) : P0 n (5 + s) = -1 := by unfold P0 clr; rw [if_neg (by omega), if_neg (by omega), if_pos (by omega)]
theorem rel_0 {σ1 : ckS} {q : Nat} {O : Nat → ckR} (i1 : ckInv σ1 none none q P0 O P0) : Rel σ1 (fun _ _ => 0) 0 := by
  have g : Gd 0 P0 := ⟨fun n _ => ⟨0, Nat.le_refl _, rfl⟩, fun n s _ hs => Or.inl (P0_5 hs n)⟩
  have m : Mt P0 (fun _ => 0) (fun _ => 0) := fun n s _ hs => by
    rw [lk_m1 (P0_5 hs n), P0_1 hs]
    exact ⟨fun t h => by simp at h, fun _ => ⟨rfl, rfl⟩⟩
  exact ⟨none, none, q, P0, O, P0, i1, g, m, g, m, Or.inl ⟨rfl, rfl⟩⟩
end
section
/-! THE CONSTRUCTORS -/
theorem gg_inN {l : Launch} {y : MethodName} {cc : ByteArray} {nL : Nat} {rm : Room} {D : va_G} {ws : va_W} {cI cZ : ClassId} {as : List Value} {post : ckS → Prop} {B : (Nat → Prop) → ckS → State → Prop} {mc ms : Nat} (hy : plainName y.cls = true) (hc : ∀ v ∈ as, v.category = 1) (hn : (lg_sl as).length ≤ nL)
    (body : ∀ (p : Program) (e : Env) (s : State) (m : MethodId) (args : Array Value) (below : List Frame) (meth : Method) (c : Code) (A : Nat → Prop) (ls : Array Slot), gC p c s m args meth A cc nL y.cls none → meth.name = y.name → va_K D vwCl [(cI, .int), (cZ, .boolean)] s → va_P D vwCl ws s.heap → va_D A ws → lvH ls nL (lvIn as nL) → W p l e rm s m args below meth c s.heap [] 0 0 (MQ below (va_Qv post (B A) A) args s mc ms A) (F0 m 0 ls [])) : ∀ sz : Nat, Met l y (ws_ y cc nL none) rm (va_Pc as (fun U => U.heap.size = sz ∧ va_P D vwCl ws U.heap ∧ va_K D vwCl [(cI, .int), (cZ, .boolean)] U ∧ va_D (fun _ => True) ws)) (va_Qv post (B (va_A ws sz)) (va_A ws sz)) mc ms (va_A ws sz) := by
  intro sz
  refine Met.ofW (cc := cc) (maxL := nL) (ret := none) hy rfl ?_
  intro p e s m args below meth c s₁ B1 hml hv
  obtain ⟨rfl, hsz, hP, hK, hD0⟩ := hv
  have hts := atoms_spec (ws := ws_ y cc nL none) B1.pre
  have hts : ∀ w ∈ lw_all, w.before _ s = true := fun w h => hts w (List.mem_cons_of_mem _ h)
  have hown : s.vm.findClass y.cls = some m.cls := findClass_of_methodNamed B1.named
  subst hsz
  have hD := hD0.self (sz := s.heap.size)
  rw [lg_entry_eq]
  exact body p e s m _ below meth c _ _ ⟨B1.exec, B1.bytes, hml, hown, hts, fun q h => Or.inr h, B1.returns, B1.notSynchronized⟩ (name_of_methodNamed B1.named B1.method).1 hK hP hD (lvH_in hc hn)
section INIT
variable {p : Program} {l : Launch} {e : Env} {R : Room} {s : State} {m : MethodId} {args : Array Value} {below : List Frame} {meth : Method} {c : Code} {Q : State → Prop} {D : va_G} {A : Nat → Prop} {nL cells slots : Nat}
variable {cc : ByteArray} {own : String} {rt : Option FieldType} {pc : Nat} {ci : Nat} {T : u_T} {N : Nat} {ty : Nat → FieldType} {h0 : Nat} {cI cZ : ClassId} {H : Heap} {locs : List Loc} {ls : Array Slot} {fs : List Value} {ws : va_W}
/-- a new array into a final field of the object -/
theorem in_arrI (C : gC p c s m args meth A cc nL own rt) (hcl : ckCl ci own T N ty) (hin2 : meth.name = "<init>") (hK : va_K D vwCl [(cI, .int), (cZ, .boolean)] s) (hP : va_P D vwCl ((h0, .inr (ci, fs)) :: ws) H) (hD : va_D A ((h0, .inr (ci, fs)) :: ws)) (hS : va_S A s.heap H locs) (n : Nat) (hn : n < 2 ^ 31) (hb : n * componentBytes .int ≤ 536870912) (h1 : cells + 1 ≤ R.cells) (h2 : slots + n ≤ R.slots) (k : Nat) (hk : k < N) {index : Nat} (hq : Cond.fieldLink own index (T k).1 (T k).2.1 (T k).2.2.1 ∈ lw_all) (hfin : (T k).2.2.2 = true) (hdecl : (T k).1 = own) (hnr : ∀ q, narrow (ty k) (.ref q) = .ref q) (hft : ∀ q, fits (ty k) (.ref q) = true) (hl : k < fs.length) (hd1 : decode cc pc = .ok (.newarray .int, 2)) (hd2 : decode cc (pc + 2) = .ok (.putfield index, 3))
    (kk : ∀ (q : Nat) (H1 : Heap) (locs1 : List Loc), va_P D vwCl ((h0, .inr (ci, fs.set k (.ref q))) :: (ws ++ [(q, .inl (cI, n, .inl (fun _ => 0)))])) H1 → va_D A ((h0, .inr (ci, fs.set k (.ref q))) :: (ws ++ [(q, .inl (cI, n, .inl (fun _ => 0)))])) → va_S A s.heap H1 locs1 → W p l e R s m args below meth c H1 locs1 (cells + 1) (slots + n) Q (F0 m (pc + 2 + 3) ls [])) : W p l e R s m args below meth c H locs cells slots Q (F0 m pc ls [.int (nI n), .ref h0]) := by
  refine va_newa (atype := .int) (ty := .int) (a0 := (n, .inl (fun _ => 0))) C.1 C.2.1 (C.2.2.2.2.1 _ q102) rfl hK hP hD hS C.2.2.2.2.2.1 (fun cA => rfl) (nI_pos hn) (nI_clamp hn) hb h1 h2 hd1 (fun q cA H1 hK1 hP1 hD1 hS1 => ?_)
  have e1 : cA = cI := Option.some.inj (((hK1.2 2 _ rfl).2).symm.trans (hK.2 0 _ rfl).2)
  subst e1
  exact va_putF C.1 C.2.1 C.2.2.2.2.1 hcl.2.1 ty hcl.2.2.1 hcl.2.2.2 C.2.2.2.1 hK hP1 hD1 hS1 0 rfl hcl.1 k hk (C.2.2.2.2.1 _ hq) (fun _ h9 => h9) hfin hin2 hdecl (hcl.2.2.1 k hk) (hnr q) (hft q) hl hd2 (fun H2 locs2 g1 g2 g3 => kk q H2 locs2 g1 g2 g3)
/-- a new array into a final field of the object -/
theorem in_arrZ (C : gC p c s m args meth A cc nL own rt) (hcl : ckCl ci own T N ty) (hin2 : meth.name = "<init>") (hK : va_K D vwCl [(cI, .int), (cZ, .boolean)] s) (hP : va_P D vwCl ((h0, .inr (ci, fs)) :: ws) H) (hD : va_D A ((h0, .inr (ci, fs)) :: ws)) (hS : va_S A s.heap H locs) (n : Nat) (hn : n < 2 ^ 31) (hb : n * componentBytes .boolean ≤ 536870912) (h1 : cells + 1 ≤ R.cells) (h2 : slots + n ≤ R.slots) (k : Nat) (hk : k < N) {index : Nat} (hq : Cond.fieldLink own index (T k).1 (T k).2.1 (T k).2.2.1 ∈ lw_all) (hfin : (T k).2.2.2 = true) (hdecl : (T k).1 = own) (hnr : ∀ q, narrow (ty k) (.ref q) = .ref q) (hft : ∀ q, fits (ty k) (.ref q) = true) (hl : k < fs.length) (hd1 : decode cc pc = .ok (.newarray .boolean, 2)) (hd2 : decode cc (pc + 2) = .ok (.putfield index, 3))
    (kk : ∀ (q : Nat) (H1 : Heap) (locs1 : List Loc), va_P D vwCl ((h0, .inr (ci, fs.set k (.ref q))) :: (ws ++ [(q, .inl (cZ, n, .inl (fun _ => 0)))])) H1 → va_D A ((h0, .inr (ci, fs.set k (.ref q))) :: (ws ++ [(q, .inl (cZ, n, .inl (fun _ => 0)))])) → va_S A s.heap H1 locs1 → W p l e R s m args below meth c H1 locs1 (cells + 1) (slots + n) Q (F0 m (pc + 2 + 3) ls [])) : W p l e R s m args below meth c H locs cells slots Q (F0 m pc ls [.int (nI n), .ref h0]) := by
  refine va_newa (atype := .boolean) (ty := .boolean) (a0 := (n, .inl (fun _ => 0))) C.1 C.2.1 (C.2.2.2.2.1 _ q103) rfl hK hP hD hS C.2.2.2.2.2.1 (fun cA => rfl) (nI_pos hn) (nI_clamp hn) hb h1 h2 hd1 (fun q cA H1 hK1 hP1 hD1 hS1 => ?_)
  have e1 : cA = cZ := Option.some.inj (((hK1.2 2 _ rfl).2).symm.trans (hK.2 1 _ rfl).2)
  subst e1
  exact va_putF C.1 C.2.1 C.2.2.2.2.1 hcl.2.1 ty hcl.2.2.1 hcl.2.2.2 C.2.2.2.1 hK hP1 hD1 hS1 0 rfl hcl.1 k hk (C.2.2.2.2.1 _ hq) (fun _ h9 => h9) hfin hin2 hdecl (hcl.2.2.1 k hk) (hnr q) (hft q) hl hd2 (fun H2 locs2 g1 g2 g3 => kk q H2 locs2 g1 g2 g3)
end INIT
/-- the constructor's loop: no home place holds a key -/
def p_ht : Nat → ckS → ckS
  | 0, σ => σ
  | i + 1, σ => ckUp (p_ht i σ) 1 (upd (p_ht i σ 1) i (-1))
theorem p_ht_k (σ : ckS) : ∀ (i k : Nat), k ≠ 1 → p_ht i σ k = σ k := by
  intro i
  induction i with
  | zero => intro k _; rfl
  | succ i ih => intro k h; rw [p_ht, kUp_n h]; exact ih k h
theorem p_ht_1 (σ : ckS) : ∀ (i j : Nat), j < i → p_ht i σ 1 j = -1 := by
  intro i
  induction i with
  | zero => intro j h; omega
  | succ i ih =>
    intro j h
    rw [p_ht, kUp_s]
    by_cases q : j = i
    · rw [q, up_s]
    · rw [up_n q]; exact ih j (by omega)
theorem ht_P0 {n : Nat} (hn : n < 16) : ckHm (p_ht 64 (ckUp (fun _ _ => 0) 9 (fun _ => -1))) n = P0 n := by
  funext j
  unfold ckHm rc P0 clr
  rw [p_ht_k _ 64 3 (by omega), p_ht_k _ 64 0 (by omega), p_ht_k _ 64 2 (by omega)]
  by_cases j0 : j = 0
  · rw [if_pos j0, if_pos j0]; rfl
  · rw [if_neg j0, if_neg j0]
    by_cases j1 : j < 5
    · rw [if_pos j1, if_pos j1]; rfl
    · rw [if_neg j1, if_neg j1]
      by_cases j2 : j < 9
      · rw [if_pos j2, if_pos j2, p_ht_1 _ 64 _ (by omega)]
      · rw [if_neg j2, if_neg j2]
        by_cases j3 : j < 13
        · rw [if_pos j3]; rfl
        · rw [if_neg j3]
abbrev csF0 : List Value := [.null, .null, .null, .null, .null, .null, .null, .null, .null, .int 0, .null, .null, .null, .null, .null, .null, .null, .int 0, .int 0, .int 0]
set_option maxRecDepth 100000 in
set_option maxHeartbeats 4000000 in
/-- CheckpointedStore() -/
theorem tS_init (l : Launch) (D : va_G) (h0 : Nat) (cI cZ : ClassId) : ∀ sz : Nat, Met l yX0_init (ws_ yX0_init cX0_init 2 none) { frames := 2, cells := 16, slots := 960, locals := 60 } (va_Pc [.ref h0] (fun U => U.heap.size = sz ∧ va_P D vwCl [(h0, .inr (0, csF0))] U.heap ∧ va_K D vwCl [(cI, .int), (cZ, .boolean)] U ∧ va_D (fun _ => True) [(h0, .inr (0, csF0))])) (va_Qv (fun u : ckS => ∃ q, ckInv u none none q P0 P0 P0) ((fun A u t => ∃ ad : Nat → Nat, va_P D vwCl (csW h0 ad cI cZ u) t.heap ∧ va_D A (csW h0 ad cI cZ u)) (va_A [(h0, .inr (0, csF0))] sz)) (va_A [(h0, .inr (0, csF0))] sz)) 16 960 (va_A [(h0, .inr (0, csF0))] sz) := by
  refine gg_inN (B := fun A u t => ∃ ad : Nat → Nat, va_P D vwCl (csW h0 ad cI cZ u) t.heap ∧ va_D A (csW h0 ad cI cZ u)) (by decide) (by simp [Value.category]) (Nat.le_of_ble_eq_true rfl) ?_
  intro p e s m args below meth c A ls C hin2 hK hP hD hl
  have hS : va_S A s.heap s.heap [] := va_S.rf
  refine lv_aload_n C.1 C.2.1 dX0_init_0 rfl (lvH_at hl rfl) ?_
  refine W.objInit C.1 C.2.1 C.2.2.2.1 (C.2.2.2.2.1 _ q26) (C.2.2.2.2.1 _ q27) (C.2.2.2.2.1 _ q28) rfl (by rw [C.2.2.1]; exact hl.1.1) rfl dX0_init_1 (Nat.le_of_ble_eq_true rfl) (Nat.le_of_ble_eq_true rfl) ?_
  refine W.eq (g2 := F0 m 4 ls []) rfl ?_
  refine lv_aload_n (pc := 4) C.1 C.2.1 dX0_init_4 rfl (lvH_at hl rfl) ?_
  refine lv_bipush (pc := 5) (v := nI 64) C.1 C.2.1 dX0_init_5 (by decide) ?_
  refine in_arrI (pc := 7) (cells := 0) (slots := 0) C ckCl0 hin2 hK hP hD hS 64 (by decide) (by decide) (by decide) (by decide) 0 (by decide) q41 rfl rfl (fun _ => rfl) (fun _ => rfl) (Nat.le_of_ble_eq_true rfl) dX0_init_7 dX0_init_9 (fun q0 H locs hP hD hS => ?_)
  refine lv_aload_n (pc := 12) C.1 C.2.1 dX0_init_12 rfl (lvH_at hl rfl) ?_
  refine lv_bipush (pc := 13) (v := nI 64) C.1 C.2.1 dX0_init_13 (by decide) ?_
  refine in_arrI (pc := 15) (cells := 1) (slots := 64) C ckCl0 hin2 hK hP hD hS 64 (by decide) (by decide) (by decide) (by decide) 1 (by decide) q42 rfl rfl (fun _ => rfl) (fun _ => rfl) (Nat.le_of_ble_eq_true rfl) dX0_init_15 dX0_init_17 (fun q1 H locs hP hD hS => ?_)
  refine lv_aload_n (pc := 20) C.1 C.2.1 dX0_init_20 rfl (lvH_at hl rfl) ?_
  refine lv_bipush (pc := 21) (v := nI 64) C.1 C.2.1 dX0_init_21 (by decide) ?_
  refine in_arrI (pc := 23) (cells := 2) (slots := 128) C ckCl0 hin2 hK hP hD hS 64 (by decide) (by decide) (by decide) (by decide) 2 (by decide) q43 rfl rfl (fun _ => rfl) (fun _ => rfl) (Nat.le_of_ble_eq_true rfl) dX0_init_23 dX0_init_25 (fun q2 H locs hP hD hS => ?_)
  refine lv_aload_n (pc := 28) C.1 C.2.1 dX0_init_28 rfl (lvH_at hl rfl) ?_
  refine lv_bipush (pc := 29) (v := nI 16) C.1 C.2.1 dX0_init_29 (by decide) ?_
  refine in_arrI (pc := 31) (cells := 3) (slots := 192) C ckCl0 hin2 hK hP hD hS 16 (by decide) (by decide) (by decide) (by decide) 3 (by decide) q44 rfl rfl (fun _ => rfl) (fun _ => rfl) (Nat.le_of_ble_eq_true rfl) dX0_init_31 dX0_init_33 (fun q3 H locs hP hD hS => ?_)
  refine lv_aload_n (pc := 36) C.1 C.2.1 dX0_init_36 rfl (lvH_at hl rfl) ?_
  refine lv_sipush (pc := 37) (v := nI 192) C.1 C.2.1 dX0_init_37 (by decide) ?_
  refine in_arrI (pc := 40) (cells := 4) (slots := 208) C ckCl0 hin2 hK hP hD hS 192 (by decide) (by decide) (by decide) (by decide) 4 (by decide) q45 rfl rfl (fun _ => rfl) (fun _ => rfl) (Nat.le_of_ble_eq_true rfl) dX0_init_40 dX0_init_42 (fun q4 H locs hP hD hS => ?_)
  refine lv_aload_n (pc := 45) C.1 C.2.1 dX0_init_45 rfl (lvH_at hl rfl) ?_
  refine lv_sipush (pc := 46) (v := nI 192) C.1 C.2.1 dX0_init_46 (by decide) ?_
  refine in_arrI (pc := 49) (cells := 5) (slots := 400) C ckCl0 hin2 hK hP hD hS 192 (by decide) (by decide) (by decide) (by decide) 5 (by decide) q46 rfl rfl (fun _ => rfl) (fun _ => rfl) (Nat.le_of_ble_eq_true rfl) dX0_init_49 dX0_init_51 (fun q5 H locs hP hD hS => ?_)
  refine lv_aload_n (pc := 54) C.1 C.2.1 dX0_init_54 rfl (lvH_at hl rfl) ?_
  refine lv_sipush (pc := 55) (v := nI 192) C.1 C.2.1 dX0_init_55 (by decide) ?_
  refine in_arrI (pc := 58) (cells := 6) (slots := 592) C ckCl0 hin2 hK hP hD hS 192 (by decide) (by decide) (by decide) (by decide) 6 (by decide) q47 rfl rfl (fun _ => rfl) (fun _ => rfl) (Nat.le_of_ble_eq_true rfl) dX0_init_58 dX0_init_60 (fun q6 H locs hP hD hS => ?_)
  refine lv_aload_n (pc := 63) C.1 C.2.1 dX0_init_63 rfl (lvH_at hl rfl) ?_
  refine lv_bipush (pc := 64) (v := nI 48) C.1 C.2.1 dX0_init_64 (by decide) ?_
  refine in_arrI (pc := 66) (cells := 7) (slots := 784) C ckCl0 hin2 hK hP hD hS 48 (by decide) (by decide) (by decide) (by decide) 7 (by decide) q48 rfl rfl (fun _ => rfl) (fun _ => rfl) (Nat.le_of_ble_eq_true rfl) dX0_init_66 dX0_init_68 (fun q7 H locs hP hD hS => ?_)
  refine lv_aload_n (pc := 71) C.1 C.2.1 dX0_init_71 rfl (lvH_at hl rfl) ?_
  refine lv_bipush (pc := 72) (v := nI 48) C.1 C.2.1 dX0_init_72 (by decide) ?_
  refine in_arrZ (pc := 74) (cells := 8) (slots := 832) C ckCl0 hin2 hK hP hD hS 48 (by decide) (by decide) (by decide) (by decide) 8 (by decide) q49 rfl rfl (fun _ => rfl) (fun _ => rfl) (Nat.le_of_ble_eq_true rfl) dX0_init_74 dX0_init_76 (fun q8 H locs hP hD hS => ?_)
  refine lv_aload_n (pc := 79) C.1 C.2.1 dX0_init_79 rfl (lvH_at hl rfl) ?_
  refine lv_iconst (pc := 80) (v := nI 5) C.1 C.2.1 dX0_init_80 (by decide) ?_
  refine in_arrI (pc := 81) (cells := 9) (slots := 880) C ckCl0 hin2 hK hP hD hS 5 (by decide) (by decide) (by decide) (by decide) 10 (by decide) q51 rfl rfl (fun _ => rfl) (fun _ => rfl) (Nat.le_of_ble_eq_true rfl) dX0_init_81 dX0_init_83 (fun q10 H locs hP hD hS => ?_)
  refine lv_aload_n (pc := 86) C.1 C.2.1 dX0_init_86 rfl (lvH_at hl rfl) ?_
  refine lv_iconst (pc := 87) (v := nI 5) C.1 C.2.1 dX0_init_87 (by decide) ?_
  refine in_arrZ (pc := 88) (cells := 10) (slots := 885) C ckCl0 hin2 hK hP hD hS 5 (by decide) (by decide) (by decide) (by decide) 11 (by decide) q52 rfl rfl (fun _ => rfl) (fun _ => rfl) (Nat.le_of_ble_eq_true rfl) dX0_init_88 dX0_init_90 (fun q11 H locs hP hD hS => ?_)
  refine lv_aload_n (pc := 93) C.1 C.2.1 dX0_init_93 rfl (lvH_at hl rfl) ?_
  refine lv_iconst (pc := 94) (v := nI 5) C.1 C.2.1 dX0_init_94 (by decide) ?_
  refine in_arrZ (pc := 95) (cells := 11) (slots := 890) C ckCl0 hin2 hK hP hD hS 5 (by decide) (by decide) (by decide) (by decide) 12 (by decide) q53 rfl rfl (fun _ => rfl) (fun _ => rfl) (Nat.le_of_ble_eq_true rfl) dX0_init_95 dX0_init_97 (fun q12 H locs hP hD hS => ?_)
  refine lv_aload_n (pc := 100) C.1 C.2.1 dX0_init_100 rfl (lvH_at hl rfl) ?_
  refine lv_bipush (pc := 101) (v := nI 20) C.1 C.2.1 dX0_init_101 (by decide) ?_
  refine in_arrI (pc := 103) (cells := 12) (slots := 895) C ckCl0 hin2 hK hP hD hS 20 (by decide) (by decide) (by decide) (by decide) 13 (by decide) q54 rfl rfl (fun _ => rfl) (fun _ => rfl) (Nat.le_of_ble_eq_true rfl) dX0_init_103 dX0_init_105 (fun q13 H locs hP hD hS => ?_)
  refine lv_aload_n (pc := 108) C.1 C.2.1 dX0_init_108 rfl (lvH_at hl rfl) ?_
  refine lv_bipush (pc := 109) (v := nI 20) C.1 C.2.1 dX0_init_109 (by decide) ?_
  refine in_arrI (pc := 111) (cells := 13) (slots := 915) C ckCl0 hin2 hK hP hD hS 20 (by decide) (by decide) (by decide) (by decide) 14 (by decide) q55 rfl rfl (fun _ => rfl) (fun _ => rfl) (Nat.le_of_ble_eq_true rfl) dX0_init_111 dX0_init_113 (fun q14 H locs hP hD hS => ?_)
  refine lv_aload_n (pc := 116) C.1 C.2.1 dX0_init_116 rfl (lvH_at hl rfl) ?_
  refine lv_bipush (pc := 117) (v := nI 20) C.1 C.2.1 dX0_init_117 (by decide) ?_
  refine in_arrI (pc := 119) (cells := 14) (slots := 935) C ckCl0 hin2 hK hP hD hS 20 (by decide) (by decide) (by decide) (by decide) 15 (by decide) q56 rfl rfl (fun _ => rfl) (fun _ => rfl) (Nat.le_of_ble_eq_true rfl) dX0_init_119 dX0_init_121 (fun q15 H locs hP hD hS => ?_)
  refine lv_aload_n (pc := 124) C.1 C.2.1 dX0_init_124 rfl (lvH_at hl rfl) ?_
  refine lv_iconst (pc := 125) (v := nI 5) C.1 C.2.1 dX0_init_125 (by decide) ?_
  refine in_arrI (pc := 126) (cells := 15) (slots := 955) C ckCl0 hin2 hK hP hD hS 5 (by decide) (by decide) (by decide) (by decide) 16 (by decide) q57 rfl rfl (fun _ => rfl) (fun _ => rfl) (Nat.le_of_ble_eq_true rfl) dX0_init_126 dX0_init_128 (fun q16 H locs hP hD hS => ?_)
  have S := csS (h0 := h0) (ad := (fun k => ([q0, q1, q2, q3, q4, q5, q6, q7, q8, 0, q10, q11, q12, q13, q14, q15, q16, 0, 0, 0] : List Nat).getD k 0)) hK
  have G : GG p l e { frames := 2, cells := 16, slots := 960, locals := 60 } s m args below meth c (MQ below (va_Qv (fun u : ckS => ∃ q, ckInv u none none q P0 P0 P0) ((fun A u t => ∃ ad : Nat → Nat, va_P D vwCl (csW h0 ad cI cZ u) t.heap ∧ va_D A (csW h0 ad cI cZ u)) A) A) args s 16 960 A) D (csW h0 (fun k => ([q0, q1, q2, q3, q4, q5, q6, q7, q8, 0, q10, q11, q12, q13, q14, q15, q16, 0, 0, 0] : List Nat).getD k 0) cI cZ) A 2 16 960 131 [some (.ref h0), none] [] (fun _ _ => 0) := by
    refine gg_aload_n (pc := 131) C dX0_init_131 rfl rfl ?_
    refine gg_iconst (pc := 132) (v := -1) C dX0_init_132 (by decide) ?_
    refine gg_putI (pc := 133) C S 9 (by decide) rfl q50 rfl rfl rfl dX0_init_133 ?_
    refine gg_iconst (pc := 136) (v := nI 0) C dX0_init_136 (by decide) ?_
    refine gg_istore_n (pc := 137) C dX0_init_137 rfl (by decide) rfl ?_
    refine gg_loop (F := GG p l e _ s m args below meth c _ D _ A 2 16 960) 138 [] (fun i => [some (.ref h0), some (.int (nI i))]) (fun i => p_ht i (ckUp (fun _ _ => 0) 9 (fun _ => -1))) 64 (fun i hi ih => ?_)
    refine gg_iload_n (pc := 138) C dX0_init_138 rfl rfl ?_
    refine gg_bipush (pc := 139) (v := nI 64) C dX0_init_139 (by decide) ?_
    refine gg_icmp_geN (pc := 141) C 157 dX0_init_141 (by decide) (by omega) (by omega) (fun h => ?_) (fun h => ?_)
    · obtain rfl : i = 64 := by omega
      refine gg_aload_n (pc := 157) C dX0_init_157 rfl rfl ?_
      refine gg_callV (pc := 158) C S (n := 0) [] (tS_restart l D h0 (fun k => ([q0, q1, q2, q3, q4, q5, q6, q7, q8, 0, q10, q11, q12, q13, q14, q15, q16, 0, 0, 0] : List Nat).getD k 0) cI cZ (p_ht 64 (ckUp (fun _ _ => 0) 9 (fun _ => -1))) (mk := none) (Sv := P0) (by rw [p_ht_k _ 64 9 (by omega)]; rfl) (fun m h => by simp at h) (fun n hn => ht_P0 hn) (fun e _ => Or.inl (by rw [p_ht_k _ 64 8 (by omega)]; rfl)) P0) (lw_V q29 q31 qs0 q19 q32) (by decide +kernel) ⟨by decide, by decide⟩ rfl rfl rfl rfl (Nat.le_of_ble_eq_true rfl) dX0_init_158 ⟨by decide, by decide⟩ (fun σ1 h1 => ?_)
      intro H locs ls g1 g2 g3 g4
      exact W.vret C.1 C.2.1 C.2.2.2.2.2.2.1 (fun t ht hW => ⟨⟨σ1, rfl, h1, (fun k => ([q0, q1, q2, q3, q4, q5, q6, q7, q8, 0, q10, q11, q12, q13, q14, q15, q16, 0, 0, 0] : List Nat).getD k 0), by rw [ht]; exact g1, g2⟩, g3.F ht⟩) g3.2.2 dX0_init_161 (hlocks := C.2.2.2.2.2.2.2)
    · refine gg_aload_n (pc := 144) C dX0_init_144 rfl rfl ?_
      refine gg_getA (pc := 145) C S 1 (by decide) (Or.inl rfl) q42 dX0_init_145 ?_
      refine gg_iload_n (pc := 148) C dX0_init_148 rfl rfl ?_
      refine gg_iconst (pc := 149) (v := -1) C dX0_init_149 (by decide) ?_
      refine gg_iast (pc := 150) C S 64 rfl rfl (by omega) (by decide) dX0_init_150 ?_
      refine gg_iincN (pc := 151) C dX0_init_151 rfl (by decide) rfl ?_
      refine gg_goto (pc := 154) C 138 dX0_init_154 (by decide) ?_
      exact ih h
  exact G H locs ls hP hD hS hl
abbrev cmF0 : List Value := [.null, .null, .int 0, .null, .null, .null, .null]
set_option maxRecDepth 100000 in
set_option maxHeartbeats 4000000 in
/-- CheckpointedStoreModel() -/
theorem tM_init (l : Launch) (D : va_G) (h0 : Nat) (cI cZ : ClassId) : ∀ sz : Nat, Met l yX1_init (ws_ yX1_init cX1_init 1 none) { frames := 1, cells := 6, slots := 384, locals := 30 } (va_Pc [.ref h0] (fun U => U.heap.size = sz ∧ va_P D vwCl [(h0, .inr (1, cmF0))] U.heap ∧ va_K D vwCl [(cI, .int), (cZ, .boolean)] U ∧ va_D (fun _ => True) [(h0, .inr (1, cmF0))])) (va_Qv (fun u : ckS => u = fun _ _ => 0) ((fun A u t => ∃ ad : Nat → Nat, va_P D vwCl (cmW h0 ad cI cZ u) t.heap ∧ va_D A (cmW h0 ad cI cZ u)) (va_A [(h0, .inr (1, cmF0))] sz)) (va_A [(h0, .inr (1, cmF0))] sz)) 6 384 (va_A [(h0, .inr (1, cmF0))] sz) := by
  refine gg_inN (B := fun A u t => ∃ ad : Nat → Nat, va_P D vwCl (cmW h0 ad cI cZ u) t.heap ∧ va_D A (cmW h0 ad cI cZ u)) (by decide) (by simp [Value.category]) (Nat.le_of_ble_eq_true rfl) ?_
  intro p e s m args below meth c A ls C hin2 hK hP hD hl
  have hS : va_S A s.heap s.heap [] := va_S.rf
  refine lv_aload_n C.1 C.2.1 dX1_init_0 rfl (lvH_at hl rfl) ?_
  refine W.objInit C.1 C.2.1 C.2.2.2.1 (C.2.2.2.2.1 _ q216) (C.2.2.2.2.1 _ q27) (C.2.2.2.2.1 _ q28) rfl (by rw [C.2.2.1]; exact hl.1.1) rfl dX1_init_1 (Nat.le_of_ble_eq_true rfl) (Nat.le_of_ble_eq_true rfl) ?_
  refine W.eq (g2 := F0 m 4 ls []) rfl ?_
  refine lv_aload_n (pc := 4) C.1 C.2.1 dX1_init_4 rfl (lvH_at hl rfl) ?_
  refine lv_bipush (pc := 5) (v := nI 64) C.1 C.2.1 dX1_init_5 (by decide) ?_
  refine in_arrZ (pc := 7) (cells := 0) (slots := 0) C ckCl1 hin2 hK hP hD hS 64 (by decide) (by decide) (by decide) (by decide) 0 (by decide) q217 rfl rfl (fun _ => rfl) (fun _ => rfl) (Nat.le_of_ble_eq_true rfl) dX1_init_7 dX1_init_9 (fun q0 H locs hP hD hS => ?_)
  refine lv_aload_n (pc := 12) C.1 C.2.1 dX1_init_12 rfl (lvH_at hl rfl) ?_
  refine lv_bipush (pc := 13) (v := nI 64) C.1 C.2.1 dX1_init_13 (by decide) ?_
  refine in_arrI (pc := 15) (cells := 1) (slots := 64) C ckCl1 hin2 hK hP hD hS 64 (by decide) (by decide) (by decide) (by decide) 1 (by decide) q218 rfl rfl (fun _ => rfl) (fun _ => rfl) (Nat.le_of_ble_eq_true rfl) dX1_init_15 dX1_init_17 (fun q1 H locs hP hD hS => ?_)
  refine lv_aload_n (pc := 20) C.1 C.2.1 dX1_init_20 rfl (lvH_at hl rfl) ?_
  refine lv_bipush (pc := 21) (v := nI 64) C.1 C.2.1 dX1_init_21 (by decide) ?_
  refine in_arrZ (pc := 23) (cells := 2) (slots := 128) C ckCl1 hin2 hK hP hD hS 64 (by decide) (by decide) (by decide) (by decide) 3 (by decide) q220 rfl rfl (fun _ => rfl) (fun _ => rfl) (Nat.le_of_ble_eq_true rfl) dX1_init_23 dX1_init_25 (fun q3 H locs hP hD hS => ?_)
  refine lv_aload_n (pc := 28) C.1 C.2.1 dX1_init_28 rfl (lvH_at hl rfl) ?_
  refine lv_bipush (pc := 29) (v := nI 64) C.1 C.2.1 dX1_init_29 (by decide) ?_
  refine in_arrI (pc := 31) (cells := 3) (slots := 192) C ckCl1 hin2 hK hP hD hS 64 (by decide) (by decide) (by decide) (by decide) 4 (by decide) q221 rfl rfl (fun _ => rfl) (fun _ => rfl) (Nat.le_of_ble_eq_true rfl) dX1_init_31 dX1_init_33 (fun q4 H locs hP hD hS => ?_)
  refine lv_aload_n (pc := 36) C.1 C.2.1 dX1_init_36 rfl (lvH_at hl rfl) ?_
  refine lv_bipush (pc := 37) (v := nI 64) C.1 C.2.1 dX1_init_37 (by decide) ?_
  refine in_arrZ (pc := 39) (cells := 4) (slots := 256) C ckCl1 hin2 hK hP hD hS 64 (by decide) (by decide) (by decide) (by decide) 5 (by decide) q222 rfl rfl (fun _ => rfl) (fun _ => rfl) (Nat.le_of_ble_eq_true rfl) dX1_init_39 dX1_init_41 (fun q5 H locs hP hD hS => ?_)
  refine lv_aload_n (pc := 44) C.1 C.2.1 dX1_init_44 rfl (lvH_at hl rfl) ?_
  refine lv_bipush (pc := 45) (v := nI 64) C.1 C.2.1 dX1_init_45 (by decide) ?_
  refine in_arrI (pc := 47) (cells := 5) (slots := 320) C ckCl1 hin2 hK hP hD hS 64 (by decide) (by decide) (by decide) (by decide) 6 (by decide) q223 rfl rfl (fun _ => rfl) (fun _ => rfl) (Nat.le_of_ble_eq_true rfl) dX1_init_47 dX1_init_49 (fun q6 H locs hP hD hS => ?_)
  have S := cmS (h0 := h0) (ad := (fun k => ([q0, q1, 0, q3, q4, q5, q6] : List Nat).getD k 0)) hK
  have G : GG p l e { frames := 1, cells := 6, slots := 384, locals := 30 } s m args below meth c (MQ below (va_Qv (fun u : ckS => u = fun _ _ => 0) ((fun A u t => ∃ ad : Nat → Nat, va_P D vwCl (cmW h0 ad cI cZ u) t.heap ∧ va_D A (cmW h0 ad cI cZ u)) A) A) args s 6 384 A) D (cmW h0 (fun k => ([q0, q1, 0, q3, q4, q5, q6] : List Nat).getD k 0) cI cZ) A 1 6 384 52 [some (.ref h0)] [] (fun _ _ => 0) := by
    intro H locs ls g1 g2 g3 g4
    exact W.vret C.1 C.2.1 C.2.2.2.2.2.2.1 (fun t ht hW => ⟨⟨fun _ _ => 0, rfl, rfl, (fun k => ([q0, q1, 0, q3, q4, q5, q6] : List Nat).getD k 0), by rw [ht]; exact g1, g2⟩, g3.F ht⟩) g3.2.2 dX1_init_52 (hlocks := C.2.2.2.2.2.2.2)
  exact G H locs ls hP hD hS hl
end
section
set_option maxRecDepth 100000
/-! THE CLAIM OUT OF ONE WALK OF THE LAW'S BODY. Your part is whole_start (and what it stands on); all else here is the same for every law, but numbers. -/
def R_law : String := "CheckpointedStoreLaw"
def lw_P (b : Addr) (xs : List Int32) (args : Array Value) (s : State) : Prop := args = #[.ref b] ∧ s.IntsAt b xs ∧ xs.length ≤ 320 ∧ (Jvm.Cond.and given_1 narrow_1).before args s = true
def lw_Q (_ : Array Value) (s : State) (o : Outcome) (t : State) : Prop := o = .returned (some (.int 1)) ∧ Framed s o t [] 600000 7290000
def lw_Z (below : List Frame) (a : Array Value) (s : State) : State → Prop := fun t => ∃ o, t.status = .running ∧ Ended t below o ∧ lw_Q a s o t
/-- the law's own end, with 1 on the stack, nothing written that was there before, its room as the claim has it -/
theorem lw_ret {p : Program} {l : Launch} {e : Env} {s : State} {m : MethodId} {below : List Frame} {meth : Method} {c : Code} {b : Nat} (hx : p.tables.exec = Jvm.exec) (hb : c.code = code) (hr : meth.sig.returnType = ret) (hlocks : meth.locks = false) {pc : Nat} {H : Heap} {ls : Array Slot} (hdg : decode code pc = .ok (.ireturn, 1)) : W p l e room_1 s m #[Value.ref b] below meth c H [] 600000 7290000 (lw_Z below #[Value.ref b] s) (F0 m pc ls [.int 1]) := by
  intro T hT X
  obtain ⟨fs, hret, hrun, hended, hW, hframe⟩ := X.leave (v := some (.int 1)) (hlocks := hlocks) (fun h => by rw [hr] at h; cases h)
  have hmeth' : T.vm.method? m = some meth := X.method'
  refine ⟨T.setFrames fs, ?_, .returned (some (.int 1)), hrun, hended, rfl, ⟨_, rfl⟩, hW, hframe⟩
  jvm_step X.here [X.here.top, hx, hb, hdg, hmeth', hr, ret, narrow_b1]
  (try refine ⟨rfl, ?_⟩); (try refine ⟨rfl, ?_⟩)
  first | (intro acts; rw [hret _ acts rfl rfl rfl]) | rw [hret _ _ rfl rfl rfl]
  exact Steps.refl _
/-- what holds at the law's entry: the machine, the code, the tables' words (any of lw_tbl by 'hts w (by decide +kernel)'), the script of L ints xs at the cell b, what the Statement gives of the start (any of its parts by flat_of_before) -/
def lw_At (p : Program) (s : State) (m : MethodId) (meth : Method) (c : Code) (b L : Nat) (xs : Nat → Int32) : Prop :=
  p.tables.exec = Jvm.exec ∧ c.code = code ∧ meth.sig.returnType = ret ∧ c.maxLocals = 4 ∧ s.vm.findClass R_law = some m.cls ∧ (∀ w ∈ lw_tbl, w.before #[Value.ref b] s = true) ∧ va_X b L xs s s.heap ∧ b < s.heap.size ∧ meth.locks = false ∧ (Jvm.Cond.and given_1 narrow_1).before #[Value.ref b] s = true
end
section
/-! THE LAW: its world is the store's cells, then the model's -/
def pr (σ μ : ckS) : ckS := fun k => if k < 20 then σ k else μ (k - 20)
def lwW (h1 : Nat) (ad1 : Nat → Nat) (h2 : Nat) (ad2 : Nat → Nat) (cI cZ : ClassId) (τ : ckS) : va_W := csW h1 ad1 cI cZ τ ++ cmW h2 ad2 cI cZ (fun k => τ (20 + k))
set_option maxRecDepth 100000 in
theorem lwW_pr (h1 : Nat) (ad1 : Nat → Nat) (h2 : Nat) (ad2 : Nat → Nat) (cI cZ : ClassId) (σ μ : ckS) : lwW h1 ad1 h2 ad2 cI cZ (pr σ μ) = csW h1 ad1 cI cZ σ ++ cmW h2 ad2 cI cZ μ := rfl
theorem ck_spP {D : va_G} {cl : List vw_C} {w1 w2 : va_W} {H : Heap} (h : va_P D cl (w1 ++ w2) H) : va_P D cl w1 H ∧ va_P D cl w2 H := by
  refine ⟨fun k q hk => h k q ?_, fun k q hk => h (w1.length + k) q ?_⟩
  · rw [List.getElem?_append_left (List.getElem?_eq_some_iff.mp hk).1]; exact hk
  · rw [List.getElem?_append_right (by omega), show w1.length + k - w1.length = k by omega]; exact hk
theorem ck_spD {A : Nat → Prop} {w1 w2 : va_W} (h : va_D A (w1 ++ w2)) : va_D A w1 ∧ va_D A w2 ∧ ∀ (i j : Nat) (p q : Nat × va_E), w1[i]? = some p → w2[j]? = some q → p.1 ≠ q.1 := by
  have f1 : ∀ (k : Nat) (q : Nat × va_E), w1[k]? = some q → (w1 ++ w2)[k]? = some q ∧ k < w1.length := fun k q hk => ⟨by rw [List.getElem?_append_left (List.getElem?_eq_some_iff.mp hk).1]; exact hk, (List.getElem?_eq_some_iff.mp hk).1⟩
  have f2 : ∀ (k : Nat) (q : Nat × va_E), w2[k]? = some q → (w1 ++ w2)[w1.length + k]? = some q := fun k q hk => by rw [List.getElem?_append_right (by omega), show w1.length + k - w1.length = k by omega]; exact hk
  refine ⟨⟨fun i j p q hi hj he => h.1 i j p q (f1 i p hi).1 (f1 j q hj).1 he, fun k q hk => h.2 k q (f1 k q hk).1⟩, ⟨fun i j p q hi hj he => ?_, fun k q hk => h.2 _ q (f2 k q hk)⟩, fun i j p q hi hj he => ?_⟩
  · have := h.1 _ _ p q (f2 i p hi) (f2 j q hj) he
    omega
  · have := h.1 _ _ p q (f1 i p hi).1 (f2 j q hj) he
    have := (f1 i p hi).2
    omega
theorem ck_jn1 {A : Nat → Prop} {D : va_G} {cl : List vw_C} {w1 w2 w3 : va_W} {H H1 : Heap} (hP : va_P D cl (w1 ++ w2) H) (hD : va_D A (w1 ++ w2)) (hk : ∀ q : Nat, q < H.size → ¬ va_A w1 H.size q → H1[q]? = H[q]?) (hF : ∀ q, va_A w1 H.size q → A q) (hP1 : va_P D cl w3 H1) (hD1 : va_D (va_A w1 H.size) w3) : va_P D cl (w3 ++ w2) H1 ∧ va_D A (w3 ++ w2) := by
  obtain ⟨p1, p2⟩ := ck_spP hP
  obtain ⟨d1, d2, d3⟩ := ck_spD hD
  have ap : ∀ (k : Nat) (q : Nat × va_E), w2[k]? = some q → ¬ va_A w1 H.size q.1 := by
    intro k q hq h
    rcases h with ⟨i, e, h⟩ | h
    · exact d3 i k (q.1, e) q h hq rfl
    · have := (p2 k q hq).lt
      omega
  refine ⟨va_P.app hP1 (fun k q hq => (p2 k q hq).kept (hk q.1 (p2 k q hq).lt (ap k q hq))), va_D.app (hD1.weaken (fun k q _ h => hF q.1 h)) d2 (fun i j x y hx hy hxy => ap j y hy (by rw [← hxy]; exact hD1.2 i x hx))⟩
theorem ck_jn2 {A : Nat → Prop} {D : va_G} {cl : List vw_C} {w1 w2 w3 : va_W} {H H1 : Heap} (hP : va_P D cl (w1 ++ w2) H) (hD : va_D A (w1 ++ w2)) (hk : ∀ q : Nat, q < H.size → ¬ va_A w2 H.size q → H1[q]? = H[q]?) (hF : ∀ q, va_A w2 H.size q → A q) (hP1 : va_P D cl w3 H1) (hD1 : va_D (va_A w2 H.size) w3) : va_P D cl (w1 ++ w3) H1 ∧ va_D A (w1 ++ w3) := by
  obtain ⟨p1, p2⟩ := ck_spP hP
  obtain ⟨d1, d2, d3⟩ := ck_spD hD
  have ap : ∀ (k : Nat) (q : Nat × va_E), w1[k]? = some q → ¬ va_A w2 H.size q.1 := by
    intro k q hq h
    rcases h with ⟨i, e, h⟩ | h
    · exact d3 k i q (q.1, e) hq h rfl
    · have := (p1 k q hq).lt
      omega
  refine ⟨va_P.app (fun k q hq => (p1 k q hq).kept (hk q.1 (p1 k q hq).lt (ap k q hq))) hP1, va_D.app d1 (hD1.weaken (fun k q _ h => hF q.1 h)) (fun i j x y hx hy hxy => ap i x hx (by rw [hxy]; exact hD1.2 j y hy))⟩
section LROWS
variable {p : Program} {l : Launch} {e : Env} {R : Room} {s : State} {m : MethodId} {args : Array Value} {below : List Frame} {meth : Method} {c : Code} {Q : State → Prop} {D : va_G} {A : Nat → Prop} {nL kc ks : Nat}
variable {cc : ByteArray} {own : String} {rt : Option FieldType} {pc : Nat} {lv : ckL} {st : List Value} {h1 h2 : Nat} {ad1 ad2 : Nat → Nat} {cI cZ : ClassId} {wf : ckS → va_W} {τ : ckS}
theorem lwS_callI (C : gC p c s m args meth A cc nL own rt) (hK : va_K D vwCl [(cI, .int), (cZ, .boolean)] s) {σ μ : ckS} {y : MethodName} {bytes : ByteArray} {maxL n index : Nat} {rt1 : Option FieldType} {rm : Room} {post : Int32 → ckS → Prop} (As : List Value) {st0 : List Value} (hM : ckI l y bytes maxL rt1 rm D (csW h1 ad1 cI cZ) cI cZ (.ref h1 :: As) σ post) (hG : GoodIn lw_all (wsV own index RX0 y (ws_ y bytes maxL rt1)))
    (hy : y.cls = RX0 ∧ y.cls ≠ "java/lang/invoke/MethodHandle" ∧ y.cls ≠ "java/lang/invoke/VarHandle" ∧ (parseMethodDescriptor y.desc).map (fun d => d.parameters.length) = some n) (hR : rm.frames + 1 ≤ R.frames ∧ 8 + (maxL + 11) + rm.locals ≤ R.locals) (hrc : rm.cells = 0) (hrs : rm.slots = 0) (hn : As.length = n) (hst : st0 = As.reverse ++ .ref h1 :: st) (hcat : (st.map fun v => v.category).sum ≤ 8) (hd : decode cc pc = .ok (.invokevirtual index, 3)) (hf : kc ≤ R.cells ∧ ks ≤ R.slots)
    (kk : ∀ (r : Int32) (σ1 : ckS), post r σ1 → GG p l e R s m args below meth c Q D (lwW h1 ad1 h2 ad2 cI cZ) A nL kc ks (pc + 3) lv (.int r :: st) (pr σ1 μ)) : GG p l e R s m args below meth c Q D (lwW h1 ad1 h2 ad2 cI cZ) A nL kc ks pc lv st0 (pr σ μ) := by
  intro H locs ls g1 g2 g3 g4
  rw [lwW_pr] at g1 g2
  obtain ⟨a1, a2⟩ := ck_spP g1
  obtain ⟨b1, b2, -⟩ := ck_spD g2
  have hFc := ck_free b1 g3 C.2.2.2.2.2.1
  refine va_calli (va_runV (As := As) (rest := st) ⟨C.1, C.2.1, C.2.2.1, C.2.2.2.1, C.2.2.2.2.1⟩ (hM H.size) (cwV n C.2.2.2.2.1 hG rfl hrc hrs hy hR) ⟨ck_blind _ _, va_recv (q := (RX0, TX0, 20)) (q0 := 0) (ci := 0) hK a1 rfl rfl, fun U hU hW => ⟨rfl, by rw [hU], by rw [hU]; exact a1, va_K.moved hW.alike hK, b1.weaken (fun _ _ _ _ => trivial)⟩⟩ rfl hn g4.1.1 hst (lv_room hcat) hd hf) g3 (fun q _ h => hFc q h) hFc (fun r u t H1 locs1 ht hvm hw hB hz hk hS => ?_)
  obtain ⟨j1, j2⟩ := ck_jn1 g1 g2 hk hFc (ht ▸ hB.1) hB.2
  exact kk r u hw H1 locs1 ls j1 j2 hS g4
theorem lwS_callV (C : gC p c s m args meth A cc nL own rt) (hK : va_K D vwCl [(cI, .int), (cZ, .boolean)] s) {σ μ : ckS} {y : MethodName} {bytes : ByteArray} {maxL n index : Nat} {rm : Room} {post : ckS → Prop} (As : List Value) {st0 : List Value} (hM : ckV l y bytes maxL rm D (csW h1 ad1 cI cZ) cI cZ (.ref h1 :: As) σ post) (hG : GoodIn lw_all (wsV own index RX0 y (ws_ y bytes maxL none)))
    (hy : y.cls = RX0 ∧ y.cls ≠ "java/lang/invoke/MethodHandle" ∧ y.cls ≠ "java/lang/invoke/VarHandle" ∧ (parseMethodDescriptor y.desc).map (fun d => d.parameters.length) = some n) (hR : rm.frames + 1 ≤ R.frames ∧ 8 + (maxL + 11) + rm.locals ≤ R.locals) (hrc : rm.cells = 0) (hrs : rm.slots = 0) (hn : As.length = n) (hst : st0 = As.reverse ++ .ref h1 :: st) (hcat : (st.map fun v => v.category).sum ≤ 8) (hd : decode cc pc = .ok (.invokevirtual index, 3)) (hf : kc ≤ R.cells ∧ ks ≤ R.slots)
    (kk : ∀ (σ1 : ckS), post σ1 → GG p l e R s m args below meth c Q D (lwW h1 ad1 h2 ad2 cI cZ) A nL kc ks (pc + 3) lv st (pr σ1 μ)) : GG p l e R s m args below meth c Q D (lwW h1 ad1 h2 ad2 cI cZ) A nL kc ks pc lv st0 (pr σ μ) := by
  intro H locs ls g1 g2 g3 g4
  rw [lwW_pr] at g1 g2
  obtain ⟨a1, a2⟩ := ck_spP g1
  obtain ⟨b1, b2, -⟩ := ck_spD g2
  have hFc := ck_free b1 g3 C.2.2.2.2.2.1
  refine va_callv (va_runV (As := As) (rest := st) ⟨C.1, C.2.1, C.2.2.1, C.2.2.2.1, C.2.2.2.2.1⟩ (hM H.size) (cwV n C.2.2.2.2.1 hG rfl hrc hrs hy hR) ⟨ck_blind _ _, va_recv (q := (RX0, TX0, 20)) (q0 := 0) (ci := 0) hK a1 rfl rfl, fun U hU hW => ⟨rfl, by rw [hU], by rw [hU]; exact a1, va_K.moved hW.alike hK, b1.weaken (fun _ _ _ _ => trivial)⟩⟩ rfl hn g4.1.1 hst (lv_room hcat) hd hf) g3 (fun q _ h => hFc q h) hFc (fun u t H1 locs1 ht hvm hw hB hz hk hS => ?_)
  obtain ⟨j1, j2⟩ := ck_jn1 g1 g2 hk hFc (ht ▸ hB.1) hB.2
  exact kk u hw H1 locs1 ls j1 j2 hS g4
theorem lwM_callI (C : gC p c s m args meth A cc nL own rt) (hK : va_K D vwCl [(cI, .int), (cZ, .boolean)] s) {σ μ : ckS} {y : MethodName} {bytes : ByteArray} {maxL n index : Nat} {rt1 : Option FieldType} {rm : Room} {post : Int32 → ckS → Prop} (As : List Value) {st0 : List Value} (hM : ckI l y bytes maxL rt1 rm D (cmW h2 ad2 cI cZ) cI cZ (.ref h2 :: As) μ post) (hG : GoodIn lw_all (wsV own index RX1 y (ws_ y bytes maxL rt1)))
    (hy : y.cls = RX1 ∧ y.cls ≠ "java/lang/invoke/MethodHandle" ∧ y.cls ≠ "java/lang/invoke/VarHandle" ∧ (parseMethodDescriptor y.desc).map (fun d => d.parameters.length) = some n) (hR : rm.frames + 1 ≤ R.frames ∧ 8 + (maxL + 11) + rm.locals ≤ R.locals) (hrc : rm.cells = 0) (hrs : rm.slots = 0) (hn : As.length = n) (hst : st0 = As.reverse ++ .ref h2 :: st) (hcat : (st.map fun v => v.category).sum ≤ 8) (hd : decode cc pc = .ok (.invokevirtual index, 3)) (hf : kc ≤ R.cells ∧ ks ≤ R.slots)
    (kk : ∀ (r : Int32) (σ1 : ckS), post r σ1 → GG p l e R s m args below meth c Q D (lwW h1 ad1 h2 ad2 cI cZ) A nL kc ks (pc + 3) lv (.int r :: st) (pr σ σ1)) : GG p l e R s m args below meth c Q D (lwW h1 ad1 h2 ad2 cI cZ) A nL kc ks pc lv st0 (pr σ μ) := by
  intro H locs ls g1 g2 g3 g4
  rw [lwW_pr] at g1 g2
  obtain ⟨a1, a2⟩ := ck_spP g1
  obtain ⟨b1, b2, -⟩ := ck_spD g2
  have hFc := ck_free b2 g3 C.2.2.2.2.2.1
  refine va_calli (va_runV (As := As) (rest := st) ⟨C.1, C.2.1, C.2.2.1, C.2.2.2.1, C.2.2.2.2.1⟩ (hM H.size) (cwV n C.2.2.2.2.1 hG rfl hrc hrs hy hR) ⟨ck_blind _ _, va_recv (q := (RX1, TX1, 7)) (q0 := 0) (ci := 1) hK a2 rfl rfl, fun U hU hW => ⟨rfl, by rw [hU], by rw [hU]; exact a2, va_K.moved hW.alike hK, b2.weaken (fun _ _ _ _ => trivial)⟩⟩ rfl hn g4.1.1 hst (lv_room hcat) hd hf) g3 (fun q _ h => hFc q h) hFc (fun r u t H1 locs1 ht hvm hw hB hz hk hS => ?_)
  obtain ⟨j1, j2⟩ := ck_jn2 g1 g2 hk hFc (ht ▸ hB.1) hB.2
  exact kk r u hw H1 locs1 ls j1 j2 hS g4
theorem lwM_callV (C : gC p c s m args meth A cc nL own rt) (hK : va_K D vwCl [(cI, .int), (cZ, .boolean)] s) {σ μ : ckS} {y : MethodName} {bytes : ByteArray} {maxL n index : Nat} {rm : Room} {post : ckS → Prop} (As : List Value) {st0 : List Value} (hM : ckV l y bytes maxL rm D (cmW h2 ad2 cI cZ) cI cZ (.ref h2 :: As) μ post) (hG : GoodIn lw_all (wsV own index RX1 y (ws_ y bytes maxL none)))
    (hy : y.cls = RX1 ∧ y.cls ≠ "java/lang/invoke/MethodHandle" ∧ y.cls ≠ "java/lang/invoke/VarHandle" ∧ (parseMethodDescriptor y.desc).map (fun d => d.parameters.length) = some n) (hR : rm.frames + 1 ≤ R.frames ∧ 8 + (maxL + 11) + rm.locals ≤ R.locals) (hrc : rm.cells = 0) (hrs : rm.slots = 0) (hn : As.length = n) (hst : st0 = As.reverse ++ .ref h2 :: st) (hcat : (st.map fun v => v.category).sum ≤ 8) (hd : decode cc pc = .ok (.invokevirtual index, 3)) (hf : kc ≤ R.cells ∧ ks ≤ R.slots)
    (kk : ∀ (σ1 : ckS), post σ1 → GG p l e R s m args below meth c Q D (lwW h1 ad1 h2 ad2 cI cZ) A nL kc ks (pc + 3) lv st (pr σ σ1)) : GG p l e R s m args below meth c Q D (lwW h1 ad1 h2 ad2 cI cZ) A nL kc ks pc lv st0 (pr σ μ) := by
  intro H locs ls g1 g2 g3 g4
  rw [lwW_pr] at g1 g2
  obtain ⟨a1, a2⟩ := ck_spP g1
  obtain ⟨b1, b2, -⟩ := ck_spD g2
  have hFc := ck_free b2 g3 C.2.2.2.2.2.1
  refine va_callv (va_runV (As := As) (rest := st) ⟨C.1, C.2.1, C.2.2.1, C.2.2.2.1, C.2.2.2.2.1⟩ (hM H.size) (cwV n C.2.2.2.2.1 hG rfl hrc hrs hy hR) ⟨ck_blind _ _, va_recv (q := (RX1, TX1, 7)) (q0 := 0) (ci := 1) hK a2 rfl rfl, fun U hU hW => ⟨rfl, by rw [hU], by rw [hU]; exact a2, va_K.moved hW.alike hK, b2.weaken (fun _ _ _ _ => trivial)⟩⟩ rfl hn g4.1.1 hst (lv_room hcat) hd hf) g3 (fun q _ h => hFc q h) hFc (fun u t H1 locs1 ht hvm hw hB hz hk hS => ?_)
  obtain ⟨j1, j2⟩ := ck_jn2 g1 g2 hk hFc (ht ▸ hB.1) hB.2
  exact kk u hw H1 locs1 ls j1 j2 hS g4
theorem gg_sld (C : gC p c s m args meth A cc nL own rt) {b L : Nat} {xs : Nat → Int32} (hX : va_X b L xs s s.heap) (hbl : b < s.heap.size) (hbA : ¬ A b) {j : Nat} (hj : j < L) (hL : L < 2 ^ 31) (hd : decode cc pc = .ok (.iaload, 1)) (kk : GG p l e R s m args below meth c Q D wf A nL kc ks (pc + 1) lv (.int (xs j) :: st) τ) : GG p l e R s m args below meth c Q D wf A nL kc ks pc lv (.int (nI j) :: .ref b :: st) τ := by
  intro H locs ls g1 g2 g3 g4
  refine va_sld C.1 C.2.1 hX hbl hbA g3 (vp_in_nI hj hL) hd ?_
  rw [nI_clamp (by omega)]
  exact kk H locs ls g1 g2 g3 g4
theorem gg_slen (C : gC p c s m args meth A cc nL own rt) {b L : Nat} {xs : Nat → Int32} (hX : va_X b L xs s s.heap) (hbl : b < s.heap.size) (hbA : ¬ A b) (hd : decode cc pc = .ok (.arraylength, 1)) (kk : GG p l e R s m args below meth c Q D wf A nL kc ks (pc + 1) lv (.int (nI L) :: st) τ) : GG p l e R s m args below meth c Q D wf A nL kc ks pc lv (.ref b :: st) τ := fun H locs ls g1 g2 g3 g4 => va_slen C.1 C.2.1 hX hbl hbA g3 hd (kk H locs ls g1 g2 g3 g4)
theorem gg_tIn (C : gC p c s m args meth A cc nL own rt) {dflt lo hi : Int} {offs : Array Int} {len : Nat} {x : Int32} {off : Int} (tgt : Nat) (hd : decode cc pc = .ok (.tableswitch dflt lo hi offs, len)) (h1 : ¬ x.toInt < lo) (h2 : ¬ hi < x.toInt) (ho : offs[(x.toInt - lo).toNat]? = some off) (ht : (pc : Int) + off = (tgt : Int)) (kk : GG p l e R s m args below meth c Q D wf A nL kc ks tgt lv st τ) : GG p l e R s m args below meth c Q D wf A nL kc ks pc lv (.int x :: st) τ := fun H locs ls g1 g2 g3 g4 => lv_tableIn C.1 C.2.1 hd h1 h2 ho ht (kk H locs ls g1 g2 g3 g4)
theorem gg_tOut (C : gC p c s m args meth A cc nL own rt) {dflt lo hi : Int} {offs : Array Int} {len : Nat} {x : Int32} (tgt : Nat) (hd : decode cc pc = .ok (.tableswitch dflt lo hi offs, len)) (h : x.toInt < lo ∨ hi < x.toInt) (ht : (pc : Int) + dflt = (tgt : Int)) (kk : GG p l e R s m args below meth c Q D wf A nL kc ks tgt lv st τ) : GG p l e R s m args below meth c Q D wf A nL kc ks pc lv (.int x :: st) τ := fun H locs ls g1 g2 g3 g4 => lv_tableOut C.1 C.2.1 hd h ht (kk H locs ls g1 g2 g3 g4)
end LROWS
theorem law_cmp {L i : Nat} (hL : L ≤ 320) (hi : i ≤ 400) (h : ¬ nI L - nI 5 < nI i) : i + 5 ≤ L := by
  rw [Int32.lt_iff_toInt_lt, pk_sub_toInt (by omega) (by omega), nI_toInt (by omega)] at h
  omega
set_option maxRecDepth 100000 in
set_option maxHeartbeats 4000000 in
/-- the law's loop at its head: k calls are done -/
theorem law_loop {p : Program} {l : Launch} {e : Env} {s : State} {m : MethodId} {below : List Frame} {meth : Method} {c : Code} {D : va_G} {A : Nat → Prop} {h1 h2 : Nat} {ad1 ad2 : Nat → Nat} {cI cZ : ClassId} {b L : Nat} {xs : Nat → Int32} (hL : L ≤ 320) (C : gC p c s m #[Value.ref b] meth A code 4 R_law ret) (hK : va_K D vwCl [(cI, .int), (cZ, .boolean)] s) (hX : va_X b L xs s s.heap) (hbl : b < s.heap.size) (hbA : ¬ A b) (hAs : ∀ q, A q → s.heap.size ≤ q) (σ μ : ckS) (hR : Rel σ μ 0) : GG p l e room_1 s m #[Value.ref b] below meth c (lw_Z below #[Value.ref b] s) D (lwW h1 ad1 h2 ad2 cI cZ) A 4 24 1371 18 [some (.ref b), some (.ref h1), some (.ref h2), some (.int (nI (5 * 0)))] [] (pr σ μ) := by
  refine gg_loopX (F := GG p l e room_1 s m #[Value.ref b] below meth c (lw_Z below #[Value.ref b] s) D (lwW h1 ad1 h2 ad2 cI cZ) A 4 24 1371) 18 [] (fun k (_ : ckS × ckS) => [some (.ref b), some (.ref h1), some (.ref h2), some (.int (nI (5 * k)))]) (fun X => pr X.1 X.2) (fun k X => Rel X.1 X.2 k) 64 (fun k X hk hX1 ih => ?_) (σ, μ) 0 (by omega) hR
  obtain ⟨σ0, μ0⟩ := X
  have hX1 : Rel σ0 μ0 k := hX1
  have ih : ∀ (σ1 μ1 : ckS), k < 64 → Rel σ1 μ1 (k + 1) → GG p l e room_1 s m #[Value.ref b] below meth c (lw_Z below #[Value.ref b] s) D (lwW h1 ad1 h2 ad2 cI cZ) A 4 24 1371 18 [some (.ref b), some (.ref h1), some (.ref h2), some (.int (nI (5 * (k + 1))))] [] (pr σ1 μ1) := fun σ1 μ1 h5 h6 => ih (σ1, μ1) h5 h6
  show GG p l e room_1 s m #[Value.ref b] below meth c (lw_Z below #[Value.ref b] s) D (lwW h1 ad1 h2 ad2 cI cZ) A 4 24 1371 18 [some (.ref b), some (.ref h1), some (.ref h2), some (.int (nI (5 * k)))] [] (pr σ0 μ0)
  refine gg_iload_n (pc := 18) C dL_law_18 rfl rfl ?_
  refine gg_aload_n (pc := 19) C dL_law_19 rfl rfl ?_
  refine gg_slen (pc := 20) C hX hbl hbA dL_law_20 ?_
  refine gg_iconst (pc := 21) (v := nI 5) C dL_law_21 (by decide) ?_
  refine gg_isub (pc := 22) C dL_law_22 ?_
  refine gg_icmp_gt (pc := 23) C 454 dL_law_23 (by decide) (fun h => ?_) (fun h => ?_)
  · refine gg_iconst (pc := 454) (v := 1) C dL_law_454 (by decide) ?_
    intro H locs ls g1 g2 g3 g4
    refine va_forget (fun q hq => hAs _ (g3.2.2 q hq)) ?_
    refine W.widen (k := 600000) (n := 7290000) (by decide) (by decide) ?_
    exact lw_ret C.1 C.2.1 C.2.2.2.2.2.2.1 C.2.2.2.2.2.2.2 dL_law_455
  · have hk5 := law_cmp hL (by omega) h
    have hk64 : k < 64 := by omega
    obtain ⟨mk, op, pl, P, O, Sv, hI, hV⟩ := hX1
    have tl : ∀ (σ1 μ1 : ckS), Rel σ1 μ1 (k + 1) → GG p l e room_1 s m #[Value.ref b] below meth c (lw_Z below #[Value.ref b] s) D (lwW h1 ad1 h2 ad2 cI cZ) A 4 24 1371 448 [some (.ref b), some (.ref h1), some (.ref h2), some (.int (nI (5 * k)))] [] (pr σ1 μ1) := by
      intro σ1 μ1 h6
      refine gg_iinc (pc := 448) (v := nI (5 * (k + 1))) C dL_law_448 rfl (by show nI (5 * k) + nI 5 = _; rw [nI_add]; rfl) (by decide) rfl ?_
      refine gg_goto (pc := 451) C 18 dL_law_451 (by decide) ?_
      exact ih σ1 μ1 hk64 h6
    refine gg_aload_n (pc := 26) C dL_law_26 rfl rfl ?_
    refine gg_iload_n (pc := 27) C dL_law_27 rfl rfl ?_
    refine gg_sld (pc := 28) C hX hbl hbA (by omega) (by omega) dL_law_28 ?_
    refine gg_bipush (pc := 29) (v := nI 15) C dL_law_29 (by decide) ?_
    refine gg_iand (pc := 31) C dL_law_31 ?_
    obtain ⟨j, hj, ej⟩ := pk_andE (xs (5 * k)) (m := nI 15) 4 (by decide)
    have hj : j < 16 := hj
    refine gg_top ej ?_
    have hj16 : j = 0 ∨ j = 1 ∨ j = 2 ∨ j = 3 ∨ j = 4 ∨ j = 5 ∨ j = 6 ∨ j = 7 ∨ j = 8 ∨ j = 9 ∨ j = 10 ∨ j = 11 ∨ j = 12 ∨ j = 13 ∨ j = 14 ∨ j = 15 := by omega
    rcases hj16 with rfl | rfl | rfl | rfl | rfl | rfl | rfl | rfl | rfl | rfl | rfl | rfl | rfl | rfl | rfl | rfl
    · refine gg_tIn (pc := 32) (off := 64) C 96 dL_law_32 (by decide) (by decide) (by decide) (by decide) ?_
      refine gg_aload_n (pc := 96) C dL_law_96 rfl rfl ?_
      refine gg_aload_n (pc := 97) C dL_law_97 rfl rfl ?_
      refine gg_iload_n (pc := 98) C dL_law_98 rfl rfl ?_
      refine gg_iconst (pc := 99) (v := nI 1) C dL_law_99 (by decide) ?_
      refine gg_iaddN (pc := 100) C dL_law_100 ?_
      refine gg_sld (pc := 101) C hX hbl hbA (by omega) (by omega) dL_law_101 ?_
      refine gg_aload_n (pc := 102) C dL_law_102 rfl rfl ?_
      refine gg_iload_n (pc := 103) C dL_law_103 rfl rfl ?_
      refine gg_iconst (pc := 104) (v := nI 2) C dL_law_104 (by decide) ?_
      refine gg_iaddN (pc := 105) C dL_law_105 ?_
      refine gg_sld (pc := 106) C hX hbl hbA (by omega) (by omega) dL_law_106 ?_
      refine gg_aload_n (pc := 107) C dL_law_107 rfl rfl ?_
      refine gg_iload_n (pc := 108) C dL_law_108 rfl rfl ?_
      refine gg_iconst (pc := 109) (v := nI 3) C dL_law_109 (by decide) ?_
      refine gg_iaddN (pc := 110) C dL_law_110 ?_
      refine gg_sld (pc := 111) C hX hbl hbA (by omega) (by omega) dL_law_111 ?_
      refine lwS_callI (pc := 112) C hK (n := 3) [.int (xs (5 * k + 1)), .int (xs (5 * k + 2)), .int (xs (5 * k + 3))] (tS_write l D h1 ad1 cI cZ σ0 hI (xs (5 * k + 1)) (xs (5 * k + 2)) (xs (5 * k + 3))) (lw_V q104 q105 q106 q19 q107) (by decide +kernel) ⟨by decide, by decide⟩ rfl rfl rfl rfl (Nat.le_of_ble_eq_true rfl) dL_law_112 ⟨by decide, by decide⟩ (fun r σ1 e1 => ?_)
      refine gg_aload_n (pc := 115) C dL_law_115 rfl rfl ?_
      refine gg_aload_n (pc := 116) C dL_law_116 rfl rfl ?_
      refine gg_iload_n (pc := 117) C dL_law_117 rfl rfl ?_
      refine gg_iconst (pc := 118) (v := nI 1) C dL_law_118 (by decide) ?_
      refine gg_iaddN (pc := 119) C dL_law_119 ?_
      refine gg_sld (pc := 120) C hX hbl hbA (by omega) (by omega) dL_law_120 ?_
      refine gg_aload_n (pc := 121) C dL_law_121 rfl rfl ?_
      refine gg_iload_n (pc := 122) C dL_law_122 rfl rfl ?_
      refine gg_iconst (pc := 123) (v := nI 2) C dL_law_123 (by decide) ?_
      refine gg_iaddN (pc := 124) C dL_law_124 ?_
      refine gg_sld (pc := 125) C hX hbl hbA (by omega) (by omega) dL_law_125 ?_
      refine gg_aload_n (pc := 126) C dL_law_126 rfl rfl ?_
      refine gg_iload_n (pc := 127) C dL_law_127 rfl rfl ?_
      refine gg_iconst (pc := 128) (v := nI 3) C dL_law_128 (by decide) ?_
      refine gg_iaddN (pc := 129) C dL_law_129 ?_
      refine gg_sld (pc := 130) C hX hbl hbA (by omega) (by omega) dL_law_130 ?_
      refine lwM_callI (pc := 131) C hK (n := 3) [.int (xs (5 * k + 1)), .int (xs (5 * k + 2)), .int (xs (5 * k + 3))] (tM_write l D h2 ad2 cI cZ μ0 (xs (5 * k + 1)) (xs (5 * k + 2)) (xs (5 * k + 3))) (lw_V q239 q240 q241 q20 q242) (by decide +kernel) ⟨by decide, by decide⟩ rfl rfl rfl rfl (Nat.le_of_ble_eq_true rfl) dL_law_131 ⟨by decide, by decide⟩ (fun r1 μ1 e2 => ?_)
      obtain ⟨er, hr⟩ := rel_write hV (xs (5 * k + 1)) (xs (5 * k + 2)) (xs (5 * k + 3)) e1 e2
      refine gg_icmp_eq (pc := 134) C 448 dL_law_134 (by decide) (fun _ => ?_) (fun z => absurd er z)
      exact tl σ1 μ1 hr
    · refine gg_tIn (pc := 32) (off := 107) C 139 dL_law_32 (by decide) (by decide) (by decide) (by decide) ?_
      refine gg_aload_n (pc := 139) C dL_law_139 rfl rfl ?_
      refine gg_aload_n (pc := 140) C dL_law_140 rfl rfl ?_
      refine gg_iload_n (pc := 141) C dL_law_141 rfl rfl ?_
      refine gg_iconst (pc := 142) (v := nI 1) C dL_law_142 (by decide) ?_
      refine gg_iaddN (pc := 143) C dL_law_143 ?_
      refine gg_sld (pc := 144) C hX hbl hbA (by omega) (by omega) dL_law_144 ?_
      refine gg_aload_n (pc := 145) C dL_law_145 rfl rfl ?_
      refine gg_iload_n (pc := 146) C dL_law_146 rfl rfl ?_
      refine gg_iconst (pc := 147) (v := nI 2) C dL_law_147 (by decide) ?_
      refine gg_iaddN (pc := 148) C dL_law_148 ?_
      refine gg_sld (pc := 149) C hX hbl hbA (by omega) (by omega) dL_law_149 ?_
      refine gg_aload_n (pc := 150) C dL_law_150 rfl rfl ?_
      refine gg_iload_n (pc := 151) C dL_law_151 rfl rfl ?_
      refine gg_iconst (pc := 152) (v := nI 3) C dL_law_152 (by decide) ?_
      refine gg_iaddN (pc := 153) C dL_law_153 ?_
      refine gg_sld (pc := 154) C hX hbl hbA (by omega) (by omega) dL_law_154 ?_
      refine lwS_callI (pc := 155) C hK (n := 3) [.int (xs (5 * k + 1)), .int (xs (5 * k + 2)), .int (xs (5 * k + 3))] (tS_writeKey l D h1 ad1 cI cZ σ0 hI (xs (5 * k + 1)) (xs (5 * k + 2)) (xs (5 * k + 3))) (lw_V q147 q148 q149 q19 q150) (by decide +kernel) ⟨by decide, by decide⟩ rfl rfl rfl rfl (Nat.le_of_ble_eq_true rfl) dL_law_155 ⟨by decide, by decide⟩ (fun r σ1 e1 => ?_)
      refine gg_aload_n (pc := 158) C dL_law_158 rfl rfl ?_
      refine gg_aload_n (pc := 159) C dL_law_159 rfl rfl ?_
      refine gg_iload_n (pc := 160) C dL_law_160 rfl rfl ?_
      refine gg_iconst (pc := 161) (v := nI 1) C dL_law_161 (by decide) ?_
      refine gg_iaddN (pc := 162) C dL_law_162 ?_
      refine gg_sld (pc := 163) C hX hbl hbA (by omega) (by omega) dL_law_163 ?_
      refine gg_aload_n (pc := 164) C dL_law_164 rfl rfl ?_
      refine gg_iload_n (pc := 165) C dL_law_165 rfl rfl ?_
      refine gg_iconst (pc := 166) (v := nI 2) C dL_law_166 (by decide) ?_
      refine gg_iaddN (pc := 167) C dL_law_167 ?_
      refine gg_sld (pc := 168) C hX hbl hbA (by omega) (by omega) dL_law_168 ?_
      refine gg_aload_n (pc := 169) C dL_law_169 rfl rfl ?_
      refine gg_iload_n (pc := 170) C dL_law_170 rfl rfl ?_
      refine gg_iconst (pc := 171) (v := nI 3) C dL_law_171 (by decide) ?_
      refine gg_iaddN (pc := 172) C dL_law_172 ?_
      refine gg_sld (pc := 173) C hX hbl hbA (by omega) (by omega) dL_law_173 ?_
      refine lwM_callI (pc := 174) C hK (n := 3) [.int (xs (5 * k + 1)), .int (xs (5 * k + 2)), .int (xs (5 * k + 3))] (tM_writeKey l D h2 ad2 cI cZ μ0 (xs (5 * k + 1)) (xs (5 * k + 2)) (xs (5 * k + 3))) (lw_V q253 q254 q255 q20 q256) (by decide +kernel) ⟨by decide, by decide⟩ rfl rfl rfl rfl (Nat.le_of_ble_eq_true rfl) dL_law_174 ⟨by decide, by decide⟩ (fun r1 μ1 e2 => ?_)
      obtain ⟨er, hr⟩ := rel_writeKey hV (xs (5 * k + 1)) (xs (5 * k + 2)) (xs (5 * k + 3)) e1 e2
      refine gg_icmp_eq (pc := 177) C 448 dL_law_177 (by decide) (fun _ => ?_) (fun z => absurd er z)
      exact tl σ1 μ1 hr
    · refine gg_tIn (pc := 32) (off := 150) C 182 dL_law_32 (by decide) (by decide) (by decide) (by decide) ?_
      refine gg_aload_n (pc := 182) C dL_law_182 rfl rfl ?_
      refine gg_aload_n (pc := 183) C dL_law_183 rfl rfl ?_
      refine gg_iload_n (pc := 184) C dL_law_184 rfl rfl ?_
      refine gg_iconst (pc := 185) (v := nI 1) C dL_law_185 (by decide) ?_
      refine gg_iaddN (pc := 186) C dL_law_186 ?_
      refine gg_sld (pc := 187) C hX hbl hbA (by omega) (by omega) dL_law_187 ?_
      refine gg_aload_n (pc := 188) C dL_law_188 rfl rfl ?_
      refine gg_iload_n (pc := 189) C dL_law_189 rfl rfl ?_
      refine gg_iconst (pc := 190) (v := nI 2) C dL_law_190 (by decide) ?_
      refine gg_iaddN (pc := 191) C dL_law_191 ?_
      refine gg_sld (pc := 192) C hX hbl hbA (by omega) (by omega) dL_law_192 ?_
      refine gg_aload_n (pc := 193) C dL_law_193 rfl rfl ?_
      refine gg_iload_n (pc := 194) C dL_law_194 rfl rfl ?_
      refine gg_iconst (pc := 195) (v := nI 3) C dL_law_195 (by decide) ?_
      refine gg_iaddN (pc := 196) C dL_law_196 ?_
      refine gg_sld (pc := 197) C hX hbl hbA (by omega) (by omega) dL_law_197 ?_
      refine gg_aload_n (pc := 198) C dL_law_198 rfl rfl ?_
      refine gg_iload_n (pc := 199) C dL_law_199 rfl rfl ?_
      refine gg_iconst (pc := 200) (v := nI 4) C dL_law_200 (by decide) ?_
      refine gg_iaddN (pc := 201) C dL_law_201 ?_
      refine gg_sld (pc := 202) C hX hbl hbA (by omega) (by omega) dL_law_202 ?_
      refine lwS_callI (pc := 203) C hK (n := 4) [.int (xs (5 * k + 1)), .int (xs (5 * k + 2)), .int (xs (5 * k + 3)), .int (xs (5 * k + 4))] (tS_copy l D h1 ad1 cI cZ σ0 hI hV.1.tv (xs (5 * k + 1)) (xs (5 * k + 2)) (xs (5 * k + 3)) (xs (5 * k + 4))) (lw_V q155 q156 q157 q19 q158) (by decide +kernel) ⟨by decide, by decide⟩ rfl rfl rfl rfl (Nat.le_of_ble_eq_true rfl) dL_law_203 ⟨by decide, by decide⟩ (fun r σ1 e1 => ?_)
      refine gg_aload_n (pc := 206) C dL_law_206 rfl rfl ?_
      refine gg_aload_n (pc := 207) C dL_law_207 rfl rfl ?_
      refine gg_iload_n (pc := 208) C dL_law_208 rfl rfl ?_
      refine gg_iconst (pc := 209) (v := nI 1) C dL_law_209 (by decide) ?_
      refine gg_iaddN (pc := 210) C dL_law_210 ?_
      refine gg_sld (pc := 211) C hX hbl hbA (by omega) (by omega) dL_law_211 ?_
      refine gg_aload_n (pc := 212) C dL_law_212 rfl rfl ?_
      refine gg_iload_n (pc := 213) C dL_law_213 rfl rfl ?_
      refine gg_iconst (pc := 214) (v := nI 2) C dL_law_214 (by decide) ?_
      refine gg_iaddN (pc := 215) C dL_law_215 ?_
      refine gg_sld (pc := 216) C hX hbl hbA (by omega) (by omega) dL_law_216 ?_
      refine gg_aload_n (pc := 217) C dL_law_217 rfl rfl ?_
      refine gg_iload_n (pc := 218) C dL_law_218 rfl rfl ?_
      refine gg_iconst (pc := 219) (v := nI 3) C dL_law_219 (by decide) ?_
      refine gg_iaddN (pc := 220) C dL_law_220 ?_
      refine gg_sld (pc := 221) C hX hbl hbA (by omega) (by omega) dL_law_221 ?_
      refine gg_aload_n (pc := 222) C dL_law_222 rfl rfl ?_
      refine gg_iload_n (pc := 223) C dL_law_223 rfl rfl ?_
      refine gg_iconst (pc := 224) (v := nI 4) C dL_law_224 (by decide) ?_
      refine gg_iaddN (pc := 225) C dL_law_225 ?_
      refine gg_sld (pc := 226) C hX hbl hbA (by omega) (by omega) dL_law_226 ?_
      refine lwM_callI (pc := 227) C hK (n := 4) [.int (xs (5 * k + 1)), .int (xs (5 * k + 2)), .int (xs (5 * k + 3)), .int (xs (5 * k + 4))] (tM_copy l D h2 ad2 cI cZ μ0 hV.2.1.bit (xs (5 * k + 1)) (xs (5 * k + 2)) (xs (5 * k + 3)) (xs (5 * k + 4))) (lw_V q257 q258 q259 q20 q260) (by decide +kernel) ⟨by decide, by decide⟩ rfl rfl rfl rfl (Nat.le_of_ble_eq_true rfl) dL_law_227 ⟨by decide, by decide⟩ (fun r1 μ1 e2 => ?_)
      obtain ⟨er, hr⟩ := rel_copy hV (xs (5 * k + 1)) (xs (5 * k + 2)) (xs (5 * k + 3)) (xs (5 * k + 4)) e1 e2
      refine gg_icmp_eq (pc := 230) C 448 dL_law_230 (by decide) (fun _ => ?_) (fun z => absurd er z)
      exact tl σ1 μ1 hr
    · refine gg_tIn (pc := 32) (off := 203) C 235 dL_law_32 (by decide) (by decide) (by decide) (by decide) ?_
      refine gg_aload_n (pc := 235) C dL_law_235 rfl rfl ?_
      refine gg_aload_n (pc := 236) C dL_law_236 rfl rfl ?_
      refine gg_iload_n (pc := 237) C dL_law_237 rfl rfl ?_
      refine gg_iconst (pc := 238) (v := nI 1) C dL_law_238 (by decide) ?_
      refine gg_iaddN (pc := 239) C dL_law_239 ?_
      refine gg_sld (pc := 240) C hX hbl hbA (by omega) (by omega) dL_law_240 ?_
      refine lwS_callI (pc := 241) C hK (n := 1) [.int (xs (5 * k + 1))] (tS_rescind l D h1 ad1 cI cZ σ0 hI (xs (5 * k + 1))) (lw_V q167 q168 q169 q19 q170) (by decide +kernel) ⟨by decide, by decide⟩ rfl rfl rfl rfl (Nat.le_of_ble_eq_true rfl) dL_law_241 ⟨by decide, by decide⟩ (fun r σ1 e1 => ?_)
      refine gg_aload_n (pc := 244) C dL_law_244 rfl rfl ?_
      refine gg_aload_n (pc := 245) C dL_law_245 rfl rfl ?_
      refine gg_iload_n (pc := 246) C dL_law_246 rfl rfl ?_
      refine gg_iconst (pc := 247) (v := nI 1) C dL_law_247 (by decide) ?_
      refine gg_iaddN (pc := 248) C dL_law_248 ?_
      refine gg_sld (pc := 249) C hX hbl hbA (by omega) (by omega) dL_law_249 ?_
      refine lwM_callI (pc := 250) C hK (n := 1) [.int (xs (5 * k + 1))] (tM_rescind l D h2 ad2 cI cZ μ0 (xs (5 * k + 1))) (lw_V q261 q262 q263 q20 q264) (by decide +kernel) ⟨by decide, by decide⟩ rfl rfl rfl rfl (Nat.le_of_ble_eq_true rfl) dL_law_250 ⟨by decide, by decide⟩ (fun r1 μ1 e2 => ?_)
      obtain ⟨er, hr⟩ := rel_rescind hV (by omega) (xs (5 * k + 1)) e1 e2
      refine gg_icmp_eq (pc := 253) C 448 dL_law_253 (by decide) (fun _ => ?_) (fun z => absurd er z)
      exact tl σ1 μ1 hr
    · refine gg_tIn (pc := 32) (off := 226) C 258 dL_law_32 (by decide) (by decide) (by decide) (by decide) ?_
      refine gg_aload_n (pc := 258) C dL_law_258 rfl rfl ?_
      refine gg_aload_n (pc := 259) C dL_law_259 rfl rfl ?_
      refine gg_iload_n (pc := 260) C dL_law_260 rfl rfl ?_
      refine gg_iconst (pc := 261) (v := nI 1) C dL_law_261 (by decide) ?_
      refine gg_iaddN (pc := 262) C dL_law_262 ?_
      refine gg_sld (pc := 263) C hX hbl hbA (by omega) (by omega) dL_law_263 ?_
      refine gg_aload_n (pc := 264) C dL_law_264 rfl rfl ?_
      refine gg_iload_n (pc := 265) C dL_law_265 rfl rfl ?_
      refine gg_iconst (pc := 266) (v := nI 2) C dL_law_266 (by decide) ?_
      refine gg_iaddN (pc := 267) C dL_law_267 ?_
      refine gg_sld (pc := 268) C hX hbl hbA (by omega) (by omega) dL_law_268 ?_
      refine lwS_callI (pc := 269) C hK (n := 2) [.int (xs (5 * k + 1)), .int (xs (5 * k + 2))] (tS_key l D h1 ad1 cI cZ σ0 hI hV.1.tv (xs (5 * k + 1)) (xs (5 * k + 2))) (lw_V q171 q172 q173 q19 q174) (by decide +kernel) ⟨by decide, by decide⟩ rfl rfl rfl rfl (Nat.le_of_ble_eq_true rfl) dL_law_269 ⟨by decide, by decide⟩ (fun r σ1 e1 => ?_)
      refine gg_aload_n (pc := 272) C dL_law_272 rfl rfl ?_
      refine gg_aload_n (pc := 273) C dL_law_273 rfl rfl ?_
      refine gg_iload_n (pc := 274) C dL_law_274 rfl rfl ?_
      refine gg_iconst (pc := 275) (v := nI 1) C dL_law_275 (by decide) ?_
      refine gg_iaddN (pc := 276) C dL_law_276 ?_
      refine gg_sld (pc := 277) C hX hbl hbA (by omega) (by omega) dL_law_277 ?_
      refine gg_aload_n (pc := 278) C dL_law_278 rfl rfl ?_
      refine gg_iload_n (pc := 279) C dL_law_279 rfl rfl ?_
      refine gg_iconst (pc := 280) (v := nI 2) C dL_law_280 (by decide) ?_
      refine gg_iaddN (pc := 281) C dL_law_281 ?_
      refine gg_sld (pc := 282) C hX hbl hbA (by omega) (by omega) dL_law_282 ?_
      refine lwM_callI (pc := 283) C hK (n := 2) [.int (xs (5 * k + 1)), .int (xs (5 * k + 2))] (tM_key l D h2 ad2 cI cZ μ0 (xs (5 * k + 1)) (xs (5 * k + 2))) (lw_V q265 q266 q267 q20 q268) (by decide +kernel) ⟨by decide, by decide⟩ rfl rfl rfl rfl (Nat.le_of_ble_eq_true rfl) dL_law_283 ⟨by decide, by decide⟩ (fun r1 μ1 e2 => ?_)
      obtain ⟨er, hr⟩ := rel_key hV (xs (5 * k + 1)) (xs (5 * k + 2)) e1 e2
      refine gg_icmp_eq (pc := 286) C 448 dL_law_286 (by decide) (fun _ => ?_) (fun z => absurd er z)
      exact tl σ1 μ1 hr
    · refine gg_tIn (pc := 32) (off := 259) C 291 dL_law_32 (by decide) (by decide) (by decide) (by decide) ?_
      refine gg_aload_n (pc := 291) C dL_law_291 rfl rfl ?_
      refine gg_aload_n (pc := 292) C dL_law_292 rfl rfl ?_
      refine gg_iload_n (pc := 293) C dL_law_293 rfl rfl ?_
      refine gg_iconst (pc := 294) (v := nI 1) C dL_law_294 (by decide) ?_
      refine gg_iaddN (pc := 295) C dL_law_295 ?_
      refine gg_sld (pc := 296) C hX hbl hbA (by omega) (by omega) dL_law_296 ?_
      refine gg_aload_n (pc := 297) C dL_law_297 rfl rfl ?_
      refine gg_iload_n (pc := 298) C dL_law_298 rfl rfl ?_
      refine gg_iconst (pc := 299) (v := nI 2) C dL_law_299 (by decide) ?_
      refine gg_iaddN (pc := 300) C dL_law_300 ?_
      refine gg_sld (pc := 301) C hX hbl hbA (by omega) (by omega) dL_law_301 ?_
      refine lwS_callI (pc := 302) C hK (n := 2) [.int (xs (5 * k + 1)), .int (xs (5 * k + 2))] (tS_number l D h1 ad1 cI cZ σ0 hI (xs (5 * k + 1)) (xs (5 * k + 2))) (lw_V q175 q176 q177 q19 q178) (by decide +kernel) ⟨by decide, by decide⟩ rfl rfl rfl rfl (Nat.le_of_ble_eq_true rfl) dL_law_302 ⟨by decide, by decide⟩ (fun r σ1 e1 => ?_)
      refine gg_aload_n (pc := 305) C dL_law_305 rfl rfl ?_
      refine gg_aload_n (pc := 306) C dL_law_306 rfl rfl ?_
      refine gg_iload_n (pc := 307) C dL_law_307 rfl rfl ?_
      refine gg_iconst (pc := 308) (v := nI 1) C dL_law_308 (by decide) ?_
      refine gg_iaddN (pc := 309) C dL_law_309 ?_
      refine gg_sld (pc := 310) C hX hbl hbA (by omega) (by omega) dL_law_310 ?_
      refine gg_aload_n (pc := 311) C dL_law_311 rfl rfl ?_
      refine gg_iload_n (pc := 312) C dL_law_312 rfl rfl ?_
      refine gg_iconst (pc := 313) (v := nI 2) C dL_law_313 (by decide) ?_
      refine gg_iaddN (pc := 314) C dL_law_314 ?_
      refine gg_sld (pc := 315) C hX hbl hbA (by omega) (by omega) dL_law_315 ?_
      refine lwM_callI (pc := 316) C hK (n := 2) [.int (xs (5 * k + 1)), .int (xs (5 * k + 2))] (tM_number l D h2 ad2 cI cZ μ0 (xs (5 * k + 1)) (xs (5 * k + 2))) (lw_V q269 q270 q271 q20 q272) (by decide +kernel) ⟨by decide, by decide⟩ rfl rfl rfl rfl (Nat.le_of_ble_eq_true rfl) dL_law_316 ⟨by decide, by decide⟩ (fun r1 μ1 e2 => ?_)
      obtain ⟨er, hr⟩ := rel_number hV (xs (5 * k + 1)) (xs (5 * k + 2)) e1 e2
      refine gg_icmp_eq (pc := 319) C 448 dL_law_319 (by decide) (fun _ => ?_) (fun z => absurd er z)
      exact tl σ1 μ1 hr
    · refine gg_tIn (pc := 32) (off := 292) C 324 dL_law_32 (by decide) (by decide) (by decide) (by decide) ?_
      refine gg_aload_n (pc := 324) C dL_law_324 rfl rfl ?_
      refine gg_aload_n (pc := 325) C dL_law_325 rfl rfl ?_
      refine gg_iload_n (pc := 326) C dL_law_326 rfl rfl ?_
      refine gg_iconst (pc := 327) (v := nI 1) C dL_law_327 (by decide) ?_
      refine gg_iaddN (pc := 328) C dL_law_328 ?_
      refine gg_sld (pc := 329) C hX hbl hbA (by omega) (by omega) dL_law_329 ?_
      refine gg_aload_n (pc := 330) C dL_law_330 rfl rfl ?_
      refine gg_iload_n (pc := 331) C dL_law_331 rfl rfl ?_
      refine gg_iconst (pc := 332) (v := nI 2) C dL_law_332 (by decide) ?_
      refine gg_iaddN (pc := 333) C dL_law_333 ?_
      refine gg_sld (pc := 334) C hX hbl hbA (by omega) (by omega) dL_law_334 ?_
      refine gg_aload_n (pc := 335) C dL_law_335 rfl rfl ?_
      refine gg_iload_n (pc := 336) C dL_law_336 rfl rfl ?_
      refine gg_iconst (pc := 337) (v := nI 3) C dL_law_337 (by decide) ?_
      refine gg_iaddN (pc := 338) C dL_law_338 ?_
      refine gg_sld (pc := 339) C hX hbl hbA (by omega) (by omega) dL_law_339 ?_
      refine lwS_callI (pc := 340) C hK (n := 3) [.int (xs (5 * k + 1)), .int (xs (5 * k + 2)), .int (xs (5 * k + 3))] (tS_follow l D h1 ad1 cI cZ σ0 hI hV.1.tv (xs (5 * k + 1)) (xs (5 * k + 2)) (xs (5 * k + 3))) (lw_V q179 q180 q181 q19 q182) (by decide +kernel) ⟨by decide, by decide⟩ rfl rfl rfl rfl (Nat.le_of_ble_eq_true rfl) dL_law_340 ⟨by decide, by decide⟩ (fun r σ1 e1 => ?_)
      refine gg_aload_n (pc := 343) C dL_law_343 rfl rfl ?_
      refine gg_aload_n (pc := 344) C dL_law_344 rfl rfl ?_
      refine gg_iload_n (pc := 345) C dL_law_345 rfl rfl ?_
      refine gg_iconst (pc := 346) (v := nI 1) C dL_law_346 (by decide) ?_
      refine gg_iaddN (pc := 347) C dL_law_347 ?_
      refine gg_sld (pc := 348) C hX hbl hbA (by omega) (by omega) dL_law_348 ?_
      refine gg_aload_n (pc := 349) C dL_law_349 rfl rfl ?_
      refine gg_iload_n (pc := 350) C dL_law_350 rfl rfl ?_
      refine gg_iconst (pc := 351) (v := nI 2) C dL_law_351 (by decide) ?_
      refine gg_iaddN (pc := 352) C dL_law_352 ?_
      refine gg_sld (pc := 353) C hX hbl hbA (by omega) (by omega) dL_law_353 ?_
      refine gg_aload_n (pc := 354) C dL_law_354 rfl rfl ?_
      refine gg_iload_n (pc := 355) C dL_law_355 rfl rfl ?_
      refine gg_iconst (pc := 356) (v := nI 3) C dL_law_356 (by decide) ?_
      refine gg_iaddN (pc := 357) C dL_law_357 ?_
      refine gg_sld (pc := 358) C hX hbl hbA (by omega) (by omega) dL_law_358 ?_
      refine lwM_callI (pc := 359) C hK (n := 3) [.int (xs (5 * k + 1)), .int (xs (5 * k + 2)), .int (xs (5 * k + 3))] (tM_follow l D h2 ad2 cI cZ μ0 (hV.2.1.key hV.1) (xs (5 * k + 1)) (xs (5 * k + 2)) (xs (5 * k + 3))) (lw_V q273 q274 q275 q20 q276) (by decide +kernel) ⟨by decide, by decide⟩ rfl rfl rfl rfl (Nat.le_of_ble_eq_true rfl) dL_law_359 ⟨by decide, by decide⟩ (fun r1 μ1 e2 => ?_)
      obtain ⟨er, hr⟩ := rel_follow hV (xs (5 * k + 1)) (xs (5 * k + 2)) (xs (5 * k + 3)) e1 e2
      refine gg_icmp_eq (pc := 362) C 448 dL_law_362 (by decide) (fun _ => ?_) (fun z => absurd er z)
      exact tl σ1 μ1 hr
    · refine gg_tIn (pc := 32) (off := 335) C 367 dL_law_32 (by decide) (by decide) (by decide) (by decide) ?_
      refine gg_aload_n (pc := 367) C dL_law_367 rfl rfl ?_
      refine lwS_callI (pc := 368) C hK (n := 0) [] (tS_snapshot l D h1 ad1 cI cZ σ0 hI) (lw_V q183 q184 q185 q19 q186) (by decide +kernel) ⟨by decide, by decide⟩ rfl rfl rfl rfl (Nat.le_of_ble_eq_true rfl) dL_law_368 ⟨by decide, by decide⟩ (fun r σ1 e1 => ?_)
      refine gg_aload_n (pc := 371) C dL_law_371 rfl rfl ?_
      refine lwM_callI (pc := 372) C hK (n := 0) [] (tM_snapshot l D h2 ad2 cI cZ μ0 hV.2.1.bit) (lw_V q277 q278 q279 q20 q280) (by decide +kernel) ⟨by decide, by decide⟩ rfl rfl rfl rfl (Nat.le_of_ble_eq_true rfl) dL_law_372 ⟨by decide, by decide⟩ (fun r1 μ1 e2 => ?_)
      obtain ⟨er, hr⟩ := rel_snapshot hV e1 e2
      refine gg_icmp_eq (pc := 375) C 448 dL_law_375 (by decide) (fun _ => ?_) (fun z => absurd er z)
      exact tl σ1 μ1 hr
    · refine gg_tIn (pc := 32) (off := 348) C 380 dL_law_32 (by decide) (by decide) (by decide) (by decide) ?_
      have hbit : ¬ μ0 2 0 = 0 → Bit (μ0 3) := fun z => by
        rcases hV.2.2.2.2 with ⟨_, y⟩ | ⟨_, _, _, y⟩
        · exact absurd y z
        · exact y.bit
      refine gg_aload_n (pc := 380) C dL_law_380 rfl rfl ?_
      refine lwS_callI (pc := 381) C hK (n := 0) [] (tS_settle l D h1 ad1 cI cZ σ0 hI) (lw_V q187 q188 q189 q19 q190) (by decide +kernel) ⟨by decide, by decide⟩ rfl rfl rfl rfl (Nat.le_of_ble_eq_true rfl) dL_law_381 ⟨by decide, by decide⟩ (fun r σ1 e1 => ?_)
      refine gg_aload_n (pc := 384) C dL_law_384 rfl rfl ?_
      refine lwM_callI (pc := 385) C hK (n := 0) [] (tM_settle l D h2 ad2 cI cZ μ0 hbit) (lw_V q281 q282 q283 q20 q284) (by decide +kernel) ⟨by decide, by decide⟩ rfl rfl rfl rfl (Nat.le_of_ble_eq_true rfl) dL_law_385 ⟨by decide, by decide⟩ (fun r1 μ1 e2 => ?_)
      obtain ⟨er, hr⟩ := rel_settle hV e1 e2
      refine gg_icmp_eq (pc := 388) C 448 dL_law_388 (by decide) (fun _ => ?_) (fun z => absurd er z)
      exact tl σ1 μ1 hr
    · refine gg_tIn (pc := 32) (off := 361) C 393 dL_law_32 (by decide) (by decide) (by decide) (by decide) ?_
      refine gg_aload_n (pc := 393) C dL_law_393 rfl rfl ?_
      refine lwS_callV (pc := 394) C hK (n := 0) [] (tS_crash l D h1 ad1 cI cZ σ0 hI) (lw_V q199 q200 q201 q19 q202) (by decide +kernel) ⟨by decide, by decide⟩ rfl rfl rfl rfl (Nat.le_of_ble_eq_true rfl) dL_law_394 ⟨by decide, by decide⟩ (fun σ1 e1 => ?_)
      refine gg_aload_n (pc := 397) C dL_law_397 rfl rfl ?_
      refine lwM_callV (pc := 398) C hK (n := 0) [] (tM_crash l D h2 ad2 cI cZ μ0 hV.2.2.2.1.bit) (lw_V q285 q286 q287 q20 q288) (by decide +kernel) ⟨by decide, by decide⟩ rfl rfl rfl rfl (Nat.le_of_ble_eq_true rfl) dL_law_398 ⟨by decide, by decide⟩ (fun μ1 e2 => ?_)
      refine gg_goto (pc := 401) C 448 dL_law_401 (by decide) ?_
      obtain ⟨q, i1⟩ := e1
      exact tl σ1 μ1 (rel_crash hV i1 e2)
    · refine gg_tIn (pc := 32) (off := 372) C 404 dL_law_32 (by decide) (by decide) (by decide) (by decide) ?_
      refine gg_aload_n (pc := 404) C dL_law_404 rfl rfl ?_
      refine gg_aload_n (pc := 405) C dL_law_405 rfl rfl ?_
      refine gg_iload_n (pc := 406) C dL_law_406 rfl rfl ?_
      refine gg_iconst (pc := 407) (v := nI 1) C dL_law_407 (by decide) ?_
      refine gg_iaddN (pc := 408) C dL_law_408 ?_
      refine gg_sld (pc := 409) C hX hbl hbA (by omega) (by omega) dL_law_409 ?_
      refine lwS_callV (pc := 410) C hK (n := 1) [.int (xs (5 * k + 1))] (tS_idle l D h1 ad1 cI cZ σ0 hI (xs (5 * k + 1))) (lw_V q203 q204 q205 q19 q206) (by decide +kernel) ⟨by decide, by decide⟩ rfl rfl rfl rfl (Nat.le_of_ble_eq_true rfl) dL_law_410 ⟨by decide, by decide⟩ (fun σ1 e1 => ?_)
      refine gg_aload_n (pc := 413) C dL_law_413 rfl rfl ?_
      refine gg_aload_n (pc := 414) C dL_law_414 rfl rfl ?_
      refine gg_iload_n (pc := 415) C dL_law_415 rfl rfl ?_
      refine gg_iconst (pc := 416) (v := nI 1) C dL_law_416 (by decide) ?_
      refine gg_iaddN (pc := 417) C dL_law_417 ?_
      refine gg_sld (pc := 418) C hX hbl hbA (by omega) (by omega) dL_law_418 ?_
      refine lwM_callV (pc := 419) C hK (n := 1) [.int (xs (5 * k + 1))] (tM_idle l D h2 ad2 cI cZ μ0 (xs (5 * k + 1))) (lw_V q289 q290 q291 q20 q292) (by decide +kernel) ⟨by decide, by decide⟩ rfl rfl rfl rfl (Nat.le_of_ble_eq_true rfl) dL_law_419 ⟨by decide, by decide⟩ (fun μ1 e2 => ?_)
      refine gg_goto (pc := 422) C 448 dL_law_422 (by decide) ?_
      obtain ⟨mk1, i1⟩ := e1
      exact tl σ1 μ1 (rel_same hV i1 e2)
    · refine gg_tIn (pc := 32) (off := 393) C 425 dL_law_32 (by decide) (by decide) (by decide) (by decide) ?_
      refine gg_aload_n (pc := 425) C dL_law_425 rfl rfl ?_
      refine gg_aload_n (pc := 426) C dL_law_426 rfl rfl ?_
      refine gg_iload_n (pc := 427) C dL_law_427 rfl rfl ?_
      refine gg_iconst (pc := 428) (v := nI 1) C dL_law_428 (by decide) ?_
      refine gg_iaddN (pc := 429) C dL_law_429 ?_
      refine gg_sld (pc := 430) C hX hbl hbA (by omega) (by omega) dL_law_430 ?_
      refine lwS_callI (pc := 431) C hK (n := 1) [.int (xs (5 * k + 1))] (tS_keysTo l D h1 ad1 cI cZ σ0 hI (xs (5 * k + 1))) (lw_V q207 q208 q209 q19 q210) (by decide +kernel) ⟨by decide, by decide⟩ rfl rfl rfl rfl (Nat.le_of_ble_eq_true rfl) dL_law_431 ⟨by decide, by decide⟩ (fun r σ1 e1 => ?_)
      refine gg_aload_n (pc := 434) C dL_law_434 rfl rfl ?_
      refine gg_aload_n (pc := 435) C dL_law_435 rfl rfl ?_
      refine gg_iload_n (pc := 436) C dL_law_436 rfl rfl ?_
      refine gg_iconst (pc := 437) (v := nI 1) C dL_law_437 (by decide) ?_
      refine gg_iaddN (pc := 438) C dL_law_438 ?_
      refine gg_sld (pc := 439) C hX hbl hbA (by omega) (by omega) dL_law_439 ?_
      refine lwM_callI (pc := 440) C hK (n := 1) [.int (xs (5 * k + 1))] (tM_keysTo l D h2 ad2 cI cZ μ0 (xs (5 * k + 1))) (lw_V q293 q294 q295 q20 q296) (by decide +kernel) ⟨by decide, by decide⟩ rfl rfl rfl rfl (Nat.le_of_ble_eq_true rfl) dL_law_440 ⟨by decide, by decide⟩ (fun r1 μ1 e2 => ?_)
      obtain ⟨er, hr⟩ := rel_keysTo hV (xs (5 * k + 1)) e1 e2
      refine gg_icmp_eq (pc := 443) C 448 dL_law_443 (by decide) (fun _ => ?_) (fun z => absurd er z)
      exact tl σ1 μ1 hr
    · refine gg_tOut (pc := 32) C 448 dL_law_32 (by decide) (by decide) ?_
      exact tl σ0 μ0 (rel_same hV hI rfl)
    · refine gg_tOut (pc := 32) C 448 dL_law_32 (by decide) (by decide) ?_
      exact tl σ0 μ0 (rel_same hV hI rfl)
    · refine gg_tOut (pc := 32) C 448 dL_law_32 (by decide) (by decide) ?_
      exact tl σ0 μ0 (rel_same hV hI rfl)
    · refine gg_tOut (pc := 32) C 448 dL_law_32 (by decide) (by decide) ?_
      exact tl σ0 μ0 (rel_same hV hI rfl)
end
section
set_option maxRecDepth 100000 in
set_option maxHeartbeats 4000000 in
/-- from the entry, for every script of at most 320 ints, the law comes to its end with true -/
theorem whole_start {p : Program} {e : Env} {s : State} {m : MethodId} {below : List Frame} {meth : Method} {c : Code} (l : Launch) {b L : Nat} {xs : Nat → Int32} (hL : L ≤ 320) (C0 : lw_At p s m meth c b L xs) : W p l e room_1 s m #[Value.ref b] below meth c s.heap [] 0 0 (lw_Z below #[Value.ref b] s) (entryFrame m ([Value.ref b] : List Value).toArray 4) := by
  obtain ⟨hx, hb, hr, hml, hown, hts0, hX, hbl, hlocks, hgv⟩ := C0
  have hts : ∀ w ∈ lw_all, w.before #[Value.ref b] s = true := fun w h => hts0 w (lw_all_tbl h)
  obtain ⟨c0, iS0, k0⟩ := u_known (C := RX0) (T := TX0) (N := 20) (n := 20) hts in_X0 (hts _ q22)
  obtain ⟨c1, iS1, k1⟩ := u_known (C := RX1) (T := TX1) (N := 7) (n := 7) hts in_X1 (hts _ q212)
  obtain ⟨D, hKc⟩ : ∃ D : va_G, ∀ (k : Nat) (q : vw_C), vwCl[k]? = some q → u_Kn s q.1 q.2.1 q.2.2 (D.1 k) (D.2 k) := by
    refine ⟨(fun k => if k = 0 then c0 else c1, fun k => if k = 0 then iS0 else iS1), ?_⟩
    intro k q hq
    match k, hq with
    | 0, hq => cases hq; exact k0
    | 1, hq => cases hq; exact k1
    | k + 2, hq => simp [vwCl] at hq
  obtain ⟨cI, kI, compI, i1, i2, i3⟩ := Cond.arrayClass_spec (hts _ q102)
  obtain ⟨cZ, kZ, compZ, z1, z2, z3⟩ := Cond.arrayClass_spec (hts _ q103)
  have hK : va_K D vwCl [(cI, .int), (cZ, .boolean)] s := by
    refine ⟨hKc, fun k q hk => ?_⟩
    match k, hk with
    | 0, hk => cases hk; exact ⟨fun n z => ⟨fun k h => (by cases h), kI, i2, compI, i3⟩, i1⟩
    | 1, hk => cases hk; exact ⟨fun n z => ⟨fun k h => (by cases h), kZ, z2, compZ, z3⟩, z1⟩
    | k + 2, hk => simp at hk
  obtain ⟨A, hAe⟩ : ∃ A : Nat → Prop, A = fun q => s.heap.size ≤ q := ⟨_, rfl⟩
  have hA : ∀ q : Nat, s.heap.size ≤ q → A q := fun q h => by rw [hAe]; exact h
  have hAs : ∀ q : Nat, A q → s.heap.size ≤ q := fun q h => by rw [hAe] at h; exact h
  have C : gC p c s m #[Value.ref b] meth A code 4 R_law ret := ⟨hx, hb, hml, hown, hts, hA, hr, hlocks⟩
  have hl := lvH_in (as := [Value.ref b]) (nL := 4) (by simp [Value.category]) (Nat.le_of_ble_eq_true rfl)
  rw [lg_entry_eq]
  generalize (lg_sl ([Value.ref b]) ++ List.replicate (4 - (lg_sl ([Value.ref b])).length) Slot.unset).toArray = ls at hl ⊢
  have hP : va_P D vwCl [] s.heap := fun k q h => by simp at h
  have hD : va_D A [] := ⟨fun i j p q h => by simp at h, fun k q h => by simp at h⟩
  have hS : va_S A s.heap s.heap [] := va_S.rf
  refine va_new (ci := 0) (fs := csF0) (C := RX0) (T := TX0) (N := 20) hx hb hts in_X0 tyX0 tyX0_ok hown (hts _ q21) (hts _ q22) (hts _ q19) hK hP hD hS hA rfl (fun j hj => by
    have : j = 0 ∨ j = 1 ∨ j = 2 ∨ j = 3 ∨ j = 4 ∨ j = 5 ∨ j = 6 ∨ j = 7 ∨ j = 8 ∨ j = 9 ∨ j = 10 ∨ j = 11 ∨ j = 12 ∨ j = 13 ∨ j = 14 ∨ j = 15 ∨ j = 16 ∨ j = 17 ∨ j = 18 ∨ j = 19 := by omega
    rcases this with rfl | rfl | rfl | rfl | rfl | rfl | rfl | rfl | rfl | rfl | rfl | rfl | rfl | rfl | rfl | rfl | rfl | rfl | rfl | rfl <;> rfl) (by decide) (by decide) dL_law_0 (fun q1 H hP hD hS => ?_)
  have hP : va_P D vwCl [(q1, .inr (0, csF0))] H := hP
  have hD : va_D A [(q1, .inr (0, csF0))] := hD
  refine lv_dup (pc := 3) hx hb dL_law_3 rfl ?_
  have hFc := ck_free hD hS hA
  refine va_callv (pc := 4) (va_runI (As := []) (rest := [.ref q1]) ⟨hx, hb, hml, hown, hts⟩ (tS_init l D q1 cI cZ H.size) (cwI 0 hts (lw_meth q25) rfl rfl rfl (hts _ q19) (hts _ q23) (hts _ q24) rfl (by decide +kernel) ⟨by decide, by decide⟩) ⟨fun a U g mk q => by obtain ⟨q0, q1, qP, qK, qD⟩ := q; exact ⟨q0, q1, qP, va_K.moved (u := U) (U := U.calling g mk a) (Vm.Alike.refl U.vm) qK, qD⟩, fun U hU hW => ⟨rfl, by rw [hU], by rw [hU]; exact hP, va_K.moved hW.alike hK, hD.weaken (fun _ _ _ _ => trivial)⟩⟩ rfl rfl hl.1.1 rfl (lv_room (Nat.le_of_ble_eq_true rfl)) dL_law_4 ⟨by decide, by decide⟩) hS (fun q _ h => hFc q h) hFc (fun u t H1 locs1 ht hvm hw hB hz hk hS => ?_)
  obtain ⟨ad1, hP1, hD1⟩ := hB
  rw [ht] at hP1
  have hD1 := hD1.weaken (fun k q _ h => hFc q.1 h)
  obtain ⟨q0, hInv⟩ := hw
  refine lv_astore_n (pc := 7) hx hb dL_law_7 rfl hl.1 (by decide) rfl (fun ls h5 => ?_)
  have hl := lvH_set hl rfl h5
  refine va_new (pc := 8) (ci := 1) (fs := cmF0) (C := RX1) (T := TX1) (N := 7) hx hb hts in_X1 tyX1 tyX1_ok hown (hts _ q211) (hts _ q212) (hts _ q20) hK hP1 hD1 hS hA rfl (fun j hj => by
    have : j = 0 ∨ j = 1 ∨ j = 2 ∨ j = 3 ∨ j = 4 ∨ j = 5 ∨ j = 6 := by omega
    rcases this with rfl | rfl | rfl | rfl | rfl | rfl | rfl <;> rfl) (by decide) (by decide) dL_law_8 (fun q2 H2 hP hD hS => ?_)
  obtain ⟨-, hPc⟩ := ck_spP hP
  obtain ⟨-, hDc, -⟩ := ck_spD hD
  refine lv_dup (pc := 11) hx hb dL_law_11 rfl ?_
  have hFc := ck_free hDc hS hA
  refine va_callv (pc := 12) (va_runI (As := []) (rest := [.ref q2]) ⟨hx, hb, hml, hown, hts⟩ (tM_init l D q2 cI cZ H2.size) (cwI 0 hts (lw_meth q215) rfl rfl rfl (hts _ q20) (hts _ q213) (hts _ q214) rfl (by decide +kernel) ⟨by decide, by decide⟩) ⟨fun a U g mk q => by obtain ⟨q0, q1, qP, qK, qD⟩ := q; exact ⟨q0, q1, qP, va_K.moved (u := U) (U := U.calling g mk a) (Vm.Alike.refl U.vm) qK, qD⟩, fun U hU hW => ⟨rfl, by rw [hU], by rw [hU]; exact hPc, va_K.moved hW.alike hK, hDc.weaken (fun _ _ _ _ => trivial)⟩⟩ rfl rfl hl.1.1 rfl (lv_room (Nat.le_of_ble_eq_true rfl)) dL_law_12 ⟨by decide, by decide⟩) hS (fun q _ h => hFc q h) hFc (fun u2 t H3 locs2 ht hvm hw hB hz hk hS => ?_)
  obtain ⟨ad2, hP2, hD2⟩ := hB
  rw [ht] at hP2
  have hw : u2 = fun _ _ => 0 := hw
  subst hw
  obtain ⟨hP, hD⟩ := ck_jn2 hP hD hk hFc hP2 hD2
  refine lv_astore_n (pc := 15) hx hb dL_law_15 rfl hl.1 (by decide) rfl (fun ls h5 => ?_)
  have hl := lvH_set hl rfl h5
  refine lv_iconst (pc := 16) (v := nI 0) hx hb dL_law_16 (by decide) ?_
  refine lv_istore_n (pc := 17) hx hb dL_law_17 rfl hl.1 (by decide) rfl (fun ls h5 => ?_)
  have hl := lvH_set hl rfl h5
  exact law_loop hL C hK hX hbl (fun z => by have := hAs b z; omega) hAs u (fun _ _ => 0) (rel_0 hInv) H3 locs2 ls hP hD hS hl
end
section
set_option maxRecDepth 100000
set_option maxHeartbeats 4000000 in
theorem lw_walk (l : Launch) (b : Addr) (xs : List Int32) : MetFree l x (headSpec (Jvm.Cond.code x code maxLocals ret :: tables_1) room_1) (lw_P b xs) (fun _ _ _ _ _ => True) lw_Q := by
  refine MetFree.of_bodyS (code := code) (maxLocals := maxLocals) (ret := ret) (by decide) ?_ ?_
  · intro args s m h hn
    obtain ⟨meth, c, h1, h2, h3, h4, h5, h6, -, -⟩ := Cond.code_spec hn (atoms_spec (ws := Jvm.Cond.code x code maxLocals ret :: tables_1) h _ List.mem_cons_self)
    exact ⟨meth, c, h1, h2, h3, h4, h5, h6⟩
  · intro p e s m args below meth c s₁ B hml0 hP _
    obtain ⟨rfl, hx, hbd, hgv⟩ := hP
    obtain ⟨scr, harrAt, hlist, hof, hsmall⟩ := hx
    obtain ⟨hcb, hkn, -, -⟩ := State.arrayAt?_spec harrAt
    have hown : s.vm.findClass R_law = some m.cls := findClass_of_methodNamed B.named
    have hts0 : ∀ c ∈ (Jvm.Cond.code x code maxLocals ret :: tables_1), c.before #[Value.ref b] s = true := atoms_spec (ws := Jvm.Cond.code x code maxLocals ret :: tables_1) B.pre
    have hts : ∀ w ∈ lw_tbl, w.before #[Value.ref b] s = true := k2_hts_sels lw_privs (fun w hw => hts0 w (List.mem_cons_of_mem _ hw)) lw_privs_ok
    have hml : c.maxLocals = 4 := B.maxLocals_eq (hts0 _ List.mem_cons_self)
    have X₀ : Stand p l e room_1 s m #[Value.ref b] below meth c s₁ [] 0 0 := Stand.of_body B
    have hh0 : s₁.heap = s.heap := by rw [B.state]; rfl
    have hsz : scr.slots.size = xs.length := by rw [← Array.length_toList, hlist, List.length_map]
    have hval : ∀ j : Nat, j < xs.length → scr.slots[j]? = some (.int (xs.getD j 0)) := fun j hj => by
      rw [← Array.getElem?_toList, hlist]
      simp [hj]
    have hbl : b < s.heap.size := (Array.getElem?_eq_some_iff.mp hcb).1
    have hX : va_X b xs.length (fun j => xs.getD j 0) s s.heap := ⟨scr, hcb, hof, hkn, hsz, hval⟩
    have K : W p l e room_1 s m #[Value.ref b] below meth c s₁.heap [] 0 0 (lw_Z below #[Value.ref b] s) (entryFrame m ([Value.ref b] : List Value).toArray 4) := by
      rw [hh0]
      exact whole_start l hbd ⟨B.exec, B.bytes, B.returns, hml, hown, hts, hX, hbl, B.notSynchronized, hgv⟩
    obtain ⟨t, a1, o, b1, b2, b3⟩ := K s₁ rfl X₀
    exact ⟨t, o, a1, b1, b2, b3⟩
theorem lw_pre_spec {args : Array Value} {s : State} (h : (Jvm.Cond.and given_1 narrow_1).before args s = true) (hr : rest_1_c.before args s = true) : ∃ (b : Addr) (xs : List Int32), lw_P b xs args s := by
  have hs := flat_of_before _ h
  have hq := flat_of_before _ hr
  have hc : (Cond.count 1).before args s = true := hs _ (by decide +kernel)
  have harr : (Cond.arrayOf (.arg 0) .int).before args s = true := hs _ (by decide +kernel)
  have hle : (Cond.le (.length (.arg 0)) (.int 320)).before args s = true := hs _ (by decide +kernel)
  have hlen : (Cond.isInt (.length (.arg 0))).before args s = true := hq _ (by decide +kernel)
  have hall : (Cond.all (.arg 0) (.isInt (.elem (.arg 0) (.index 0)))).before args s = true := hq _ (by decide +kernel)
  obtain ⟨b, xs, hb, hx⟩ := State.ints_of_pre rfl harr hlen hall
  have hsm : xs.length < 2 ^ 31 := hx.choose_spec.2.2.2
  have hev : (Term.length (.arg 0)).eval args s none [] s = some (.int xs.length.toInt32) := hx.length_eval hb
  have hv := Cond.le_ints hev (show (Term.int 320).eval args s none [] s = some (.int 320) from rfl)
  have hd : xs.length.toInt32 ≤ 320 := by
    simpa [Cond.before, Cond.holds, hv] using hle
  have hN : xs.length ≤ 320 := (Int32.ofNat_le_ofNat hsm (by decide)).mp (show Int32.ofNat xs.length ≤ Int32.ofNat 320 from hd)
  exact ⟨b, xs, Cond.one_arg hc (show args[0]? = some (.ref b) from hb), hx, hN, h⟩
theorem lw_comes (l : Launch) : Comes l x (Jvm.Cond.code x code maxLocals ret :: tables_1) room_1 (fun tb e args s => Calls_1 tb e args s ∧ rest_1 tb e args s ∧ Pre_1 tb e args s)
    (fun _ _ args s o t => lw_Q args s o t) := by
  intro p e ha hc hk s m args below hf hfit hheap happ hpre
  obtain ⟨b, xs, hP⟩ := lw_pre_spec hpre.2.2 hpre.2.1
  obtain ⟨k, o, h1, h2, h3, hQ⟩ := lw_walk l b xs p e ha hc hk s m args below hf ((Spec.applies_iff_loose hf).mp happ).1 hP trivial
  exact ⟨k, o, h1, h2, h3, hQ⟩
theorem lw_frame {s t : State} {o : Outcome} {args : Array Value} (h : Framed s o t [] 600000 7290000) :
    Framed s o t (fieldLocs frame_1_writes args s ++ arrayLocs frame_1_arrays args s ++ staticLocs frame_1_statics s) 600000 7290000 := h
theorem lw_limb (L : Cond) (hL : ∀ (args : Array Value) (s t : State), L.after args s (.returned (some (.int 1))) t = true) :
    ArmFor flags0 classFile x code maxLocals ret World_1 tables_1 room_1 Calls_1 rest_1 Pre_1
      (fun tb e a s o t => postC L tb e a s o t ∧ Framed s o t (fieldLocs frame_1_writes a s ++ arrayLocs frame_1_arrays a s ++ staticLocs frame_1_statics s) 600000 7290000) := by
  intro l _ _ _ p e ha hc hk s m args below hf hfit hheap happ hpre
  obtain ⟨k, o, h1, h2, h3, rfl, hF⟩ := lw_comes l p e ha hc hk s m args below hf hfit hheap happ hpre
  exact ⟨k, _, h1, h2, h3, hL args s _, lw_frame hF⟩
theorem i_vc : Claimed_1_1 ∧ Claimed_1_2 := ⟨lw_limb limb_1_1 (fun args s t => by simp [limb_1_1, Cond.after, Cond.holds, Cond.value]), lw_limb limb_1_2 (fun args s t => Cond.after_iff.mpr (by
  first | (rw [show limb_1_2 = Cond.eq .result (.int 1) from rfl, Cond.eq_ints (x := 1) (y := 1) rfl rfl]; simp; done) | (simp [limb_1_2, Cond.value, Term.eval]; done)))⟩
end
