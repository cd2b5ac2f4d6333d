section
-- ===== PART A: goes FIRST, ahead of the names: the tables' words, and 'selects' of the private methods out of them =====
/-- a private method of a class that the tables say can be made, by its rows of tables_1 -/
def lw_okq (q : MethodName × Nat) : Prop := (q.1.cls ≠ "java/lang/invoke/MethodHandle" ∧ q.1.cls ≠ "java/lang/invoke/VarHandle") ∧ Cond.instantiable q.1.cls q.2 ∈ tables_1 ∧ Cond.privateMethod q.1 ∈ tables_1 ∧ Cond.instanceMethod q.1 ∈ tables_1
set_option maxRecDepth 100000
theorem lw_t1 {w : Cond} (h : w ∈ tables_1_1) : w ∈ tables_1 := List.mem_append_left _ h
theorem lw_t2 {w : Cond} (h : w ∈ tables_1_2) : w ∈ tables_1 := List.mem_append_right _ h
theorem lw_p0 : lw_okq (⟨"PageMerger", "own", "(I)V"⟩, 14) := ⟨⟨by decide +kernel, by decide +kernel⟩, lw_t1 (List.mem_of_getElem? (i := 4) rfl), lw_t1 (List.mem_of_getElem? (i := 64) rfl), lw_t1 (List.mem_of_getElem? (i := 65) rfl)⟩
theorem lw_p1 : lw_okq (⟨"PageMerger", "bringIn", "(II)V"⟩, 14) := ⟨⟨by decide +kernel, by decide +kernel⟩, lw_t1 (List.mem_of_getElem? (i := 4) rfl), lw_t1 (List.mem_of_getElem? (i := 68) rfl), lw_t1 (List.mem_of_getElem? (i := 69) rfl)⟩
theorem lw_p2 : lw_okq (⟨"PageMerger", "takeFrame", "(II)I"⟩, 14) := ⟨⟨by decide +kernel, by decide +kernel⟩, lw_t1 (List.mem_of_getElem? (i := 4) rfl), lw_t1 (List.mem_of_getElem? (i := 72) rfl), lw_t1 (List.mem_of_getElem? (i := 73) rfl)⟩
theorem lw_p3 : lw_okq (⟨"PageMerger", "freeFrame", "()I"⟩, 14) := ⟨⟨by decide +kernel, by decide +kernel⟩, lw_t1 (List.mem_of_getElem? (i := 4) rfl), lw_t1 (List.mem_of_getElem? (i := 76) rfl), lw_t1 (List.mem_of_getElem? (i := 77) rfl)⟩
theorem lw_p4 : lw_okq (⟨"PageMerger", "evict", "(I)V"⟩, 14) := ⟨⟨by decide +kernel, by decide +kernel⟩, lw_t1 (List.mem_of_getElem? (i := 4) rfl), lw_t1 (List.mem_of_getElem? (i := 80) rfl), lw_t1 (List.mem_of_getElem? (i := 81) rfl)⟩
theorem lw_p5 : lw_okq (⟨"PageMerger", "runsOf", "(I)I"⟩, 14) := ⟨⟨by decide +kernel, by decide +kernel⟩, lw_t1 (List.mem_of_getElem? (i := 4) rfl), lw_t1 (List.mem_of_getElem? (i := 84) rfl), lw_t1 (List.mem_of_getElem? (i := 85) rfl)⟩
theorem lw_p6 : lw_okq (⟨"PageMerger", "peek", "(II)I"⟩, 14) := ⟨⟨by decide +kernel, by decide +kernel⟩, lw_t1 (List.mem_of_getElem? (i := 4) rfl), lw_t1 (List.mem_of_getElem? (i := 88) rfl), lw_t1 (List.mem_of_getElem? (i := 89) rfl)⟩
theorem lw_p7 : lw_okq (⟨"PageMerger", "squeeze", "(II)V"⟩, 14) := ⟨⟨by decide +kernel, by decide +kernel⟩, lw_t1 (List.mem_of_getElem? (i := 4) rfl), lw_t1 (List.mem_of_getElem? (i := 92) rfl), lw_t1 (List.mem_of_getElem? (i := 93) rfl)⟩
theorem lw_p8 : lw_okq (⟨"PageMerger", "letGo", "(I)V"⟩, 14) := ⟨⟨by decide +kernel, by decide +kernel⟩, lw_t1 (List.mem_of_getElem? (i := 4) rfl), lw_t1 (List.mem_of_getElem? (i := 96) rfl), lw_t1 (List.mem_of_getElem? (i := 97) rfl)⟩
theorem lw_p9 : lw_okq (⟨"PageMerger", "putAside", "(I)V"⟩, 14) := ⟨⟨by decide +kernel, by decide +kernel⟩, lw_t1 (List.mem_of_getElem? (i := 4) rfl), lw_t1 (List.mem_of_getElem? (i := 100) rfl), lw_t1 (List.mem_of_getElem? (i := 101) rfl)⟩
theorem lw_p10 : lw_okq (⟨"PageMerger", "merge", "(I)V"⟩, 14) := ⟨⟨by decide +kernel, by decide +kernel⟩, lw_t1 (List.mem_of_getElem? (i := 4) rfl), lw_t1 (List.mem_of_getElem? (i := 124) rfl), lw_t1 (List.mem_of_getElem? (i := 125) rfl)⟩
theorem lw_p11 : lw_okq (⟨"PageMerger", "hashOf", "(I)I"⟩, 14) := ⟨⟨by decide +kernel, by decide +kernel⟩, lw_t1 (List.mem_of_getElem? (i := 4) rfl), lw_t1 (List.mem_of_getElem? (i := 128) rfl), lw_t1 (List.mem_of_getElem? (i := 129) rfl)⟩
theorem lw_p12 : lw_okq (⟨"PageMerger", "equalFrames", "(II)Z"⟩, 14) := ⟨⟨by decide +kernel, by decide +kernel⟩, lw_t1 (List.mem_of_getElem? (i := 4) rfl), lw_t1 (List.mem_of_getElem? (i := 136) rfl), lw_t1 (List.mem_of_getElem? (i := 137) rfl)⟩
theorem lw_p13 : lw_okq (⟨"PageMerger", "equalPages", "(II)Z"⟩, 14) := ⟨⟨by decide +kernel, by decide +kernel⟩, lw_t1 (List.mem_of_getElem? (i := 4) rfl), lw_t1 (List.mem_of_getElem? (i := 152) rfl), lw_t1 (List.mem_of_getElem? (i := 153) rfl)⟩
theorem lw_p14 : lw_okq (⟨"PageMerger", "repeats", "(I)Z"⟩, 14) := ⟨⟨by decide +kernel, by decide +kernel⟩, lw_t1 (List.mem_of_getElem? (i := 4) rfl), lw_t1 (List.mem_of_getElem? (i := 160) rfl), lw_t1 (List.mem_of_getElem? (i := 161) rfl)⟩
theorem lw_p15 : lw_okq (⟨"PageMergerModel", "isPage", "(I)Z"⟩, 2) := ⟨⟨by decide +kernel, by decide +kernel⟩, lw_t1 (List.mem_of_getElem? (i := 179) rfl), lw_t1 (List.mem_of_getElem? (i := 196) rfl), lw_t1 (List.mem_of_getElem? (i := 197) rfl)⟩
def lw_privs_1 : List (MethodName × Nat) := [(⟨"PageMerger", "own", "(I)V"⟩, 14), (⟨"PageMerger", "bringIn", "(II)V"⟩, 14), (⟨"PageMerger", "takeFrame", "(II)I"⟩, 14), (⟨"PageMerger", "freeFrame", "()I"⟩, 14), (⟨"PageMerger", "evict", "(I)V"⟩, 14), (⟨"PageMerger", "runsOf", "(I)I"⟩, 14), (⟨"PageMerger", "peek", "(II)I"⟩, 14), (⟨"PageMerger", "squeeze", "(II)V"⟩, 14), (⟨"PageMerger", "letGo", "(I)V"⟩, 14), (⟨"PageMerger", "putAside", "(I)V"⟩, 14), (⟨"PageMerger", "merge", "(I)V"⟩, 14), (⟨"PageMerger", "hashOf", "(I)I"⟩, 14), (⟨"PageMerger", "equalFrames", "(II)Z"⟩, 14), (⟨"PageMerger", "equalPages", "(II)Z"⟩, 14), (⟨"PageMerger", "repeats", "(I)Z"⟩, 14), (⟨"PageMergerModel", "isPage", "(I)Z"⟩, 2)]
theorem lw_r1 : ∀ q ∈ lw_privs_1, lw_okq q := List.forall_mem_cons.mpr ⟨lw_p0, List.forall_mem_cons.mpr ⟨lw_p1, List.forall_mem_cons.mpr ⟨lw_p2, List.forall_mem_cons.mpr ⟨lw_p3, List.forall_mem_cons.mpr ⟨lw_p4, List.forall_mem_cons.mpr ⟨lw_p5, List.forall_mem_cons.mpr ⟨lw_p6, List.forall_mem_cons.mpr ⟨lw_p7, List.forall_mem_cons.mpr ⟨lw_p8, List.forall_mem_cons.mpr ⟨lw_p9, List.forall_mem_cons.mpr ⟨lw_p10, List.forall_mem_cons.mpr ⟨lw_p11, List.forall_mem_cons.mpr ⟨lw_p12, List.forall_mem_cons.mpr ⟨lw_p13, List.forall_mem_cons.mpr ⟨lw_p14, List.forall_mem_cons.mpr ⟨lw_p15, fun _ h => absurd h List.not_mem_nil⟩⟩⟩⟩⟩⟩⟩⟩⟩⟩⟩⟩⟩⟩⟩⟩
theorem lw_p16 : lw_okq (⟨"PageMergerModel", "again", "(I)Z"⟩, 2) := ⟨⟨by decide +kernel, by decide +kernel⟩, lw_t1 (List.mem_of_getElem? (i := 179) rfl), lw_t1 (List.mem_of_getElem? (i := 238) rfl), lw_t1 (List.mem_of_getElem? (i := 239) rfl)⟩
def lw_privs_2 : List (MethodName × Nat) := [(⟨"PageMergerModel", "again", "(I)Z"⟩, 2)]
theorem lw_r2 : ∀ q ∈ lw_privs_2, lw_okq q := List.forall_mem_cons.mpr ⟨lw_p16, fun _ h => absurd h List.not_mem_nil⟩
def lw_privs : List (MethodName × Nat) := lw_privs_1 ++ (lw_privs_2)
def lw_tbl : List Cond := k2_sels lw_privs ++ tables_1
theorem lw_privs_ok : ∀ q ∈ lw_privs, lw_okq q := by
  show ∀ q ∈ lw_privs_1 ++ (lw_privs_2), lw_okq q
  exact List.forall_mem_append.mpr ⟨lw_r1, lw_r2⟩
-- ===== ONE list of words for every method: the tables' words that hold all through a run =====
def lw_all : List Cond := lw_tbl.filter goodWord
/-- a word of the tables by its place: claim/WORDS.tsv -/
theorem lw_w {w : Cond} (i : Nat) (h : lw_tbl[i]? = some w) (g : goodWord w = true) : w ∈ lw_all := List.mem_filter.mpr ⟨List.mem_of_getElem? h, g⟩
theorem lw_all_tbl {w : Cond} (h : w ∈ lw_all) : w ∈ lw_tbl := (List.mem_filter.mp h).1
theorem lw_self : GoodIn lw_all lw_all := fun w h => ⟨h, good_of_word (List.mem_filter.mp h).2⟩
/-- a class's field words, by their places -/
theorem lw_in (ws : List Cond) (ps : List Nat) (hp : ws = ps.filterMap (fun i => lw_tbl[i]?)) (hg : ws.all goodWord = true) : ∀ w ∈ ws, w ∈ lw_all := by
  intro w h
  have h1 := List.all_eq_true.mp hg w h
  rw [hp] at h
  obtain ⟨i, -, hi⟩ := List.mem_filterMap.mp h
  exact lw_w i hi h1
/-- the words of a contract for the method y with code b, L locals, answer r -/
abbrev ws_ (y : MethodName) (b : ByteArray) (L : Nat) (r : Option FieldType) : List Cond := Cond.code y b L r :: lw_all
theorem lw_meth {y : MethodName} {b : ByteArray} {L : Nat} {r : Option FieldType} (h : Cond.code y b L r ∈ lw_all) : GoodIn lw_all (ws_ y b L r) := by
  intro w hw
  rcases List.mem_cons.mp hw with e | e
  · rw [e]
    exact lw_self _ h
  · exact lw_self _ e
theorem lw_app {a c : List Cond} (ha : ∀ w ∈ a, w ∈ lw_all) (hc : GoodIn lw_all c) : GoodIn lw_all (a ++ c) := by
  intro w hw
  rcases List.mem_append.mp hw with e | e
  · exact lw_self w (ha w e)
  · exact hc w e
/-- what a call through an object asks: cwV n hts (lw_V ..) -/
theorem lw_V {own : String} {idx : Nat} {C : String} {y : MethodName} {b : ByteArray} {L : Nat} {r : Option FieldType} (h1 : Cond.methodLink own idx y ∈ lw_all) (h2 : Cond.instanceMethod y ∈ lw_all) (h3 : Cond.selects C y y ∈ lw_all) (h4 : Cond.initialized C ∈ lw_all) (h5 : Cond.code y b L r ∈ lw_all) : GoodIn lw_all (wsV own idx C y (ws_ y b L r)) := by
  refine lw_app ?_ (lw_meth h5)
  intro w hw
  simp only [List.mem_cons, List.not_mem_nil, or_false] at hw
  rcases hw with e | e | e | e
  · rw [e]; exact h1
  · rw [e]; exact h2
  · rw [e]; exact h3
  · rw [e]; exact h4
/-- what a static call asks: va_cwS n hts (lw_S ..) -/
theorem lw_S {own : String} {idx : Nat} {y : MethodName} {b : ByteArray} {L : Nat} {r : Option FieldType} (h1 : Cond.methodLink own idx y ∈ lw_all) (h2 : Cond.static y ∈ lw_all) (h3 : Cond.initialized y.cls ∈ lw_all) (h4 : Cond.code y b L r ∈ lw_all) : GoodIn lw_all (va_wsS own idx y (ws_ y b L r)) := by
  refine lw_app ?_ (lw_meth h4)
  intro w hw
  simp only [List.mem_cons, List.not_mem_nil, or_false] at hw
  rcases hw with e | e | e
  · rw [e]; exact h1
  · rw [e]; exact h2
  · rw [e]; exact h3
/-- the words of a contract for a method WITH HANDLERS (hh: its table) -/
abbrev wsW_ (y : MethodName) (b : ByteArray) (L : Nat) (r : Option FieldType) (hh : List (Nat × Nat × Nat × Nat)) : List Cond := Cond.codeWith y b L r hh :: lw_all
theorem lw_methW {y : MethodName} {b : ByteArray} {L : Nat} {r : Option FieldType} {hh : List (Nat × Nat × Nat × Nat)} (h : Cond.codeWith y b L r hh ∈ lw_all) : GoodIn lw_all (wsW_ y b L r hh) := by
  intro w hw
  rcases List.mem_cons.mp hw with e | e
  · rw [e]
    exact lw_self _ h
  · exact lw_self _ e
/-- any list of words by their places (lw_in), good -/
theorem lw_good {ws : List Cond} (h : ∀ w ∈ ws, w ∈ lw_all) : GoodIn lw_all ws := fun w hw => lw_self w (h w hw)
/-- what a call of a method with handlers asks: vx_cwVW n hts (lw_VW ..), vx_cwSW n hts (lw_SW ..) -/
theorem lw_VW {own : String} {idx : Nat} {C : String} {y : MethodName} {b : ByteArray} {L : Nat} {r : Option FieldType} {hh : List (Nat × Nat × Nat × Nat)} (h1 : Cond.methodLink own idx y ∈ lw_all) (h2 : Cond.instanceMethod y ∈ lw_all) (h3 : Cond.selects C y y ∈ lw_all) (h4 : Cond.initialized C ∈ lw_all) (h5 : Cond.codeWith y b L r hh ∈ lw_all) : GoodIn lw_all (wsV own idx C y (wsW_ y b L r hh)) := by
  refine lw_app ?_ (lw_methW h5)
  intro w hw
  simp only [List.mem_cons, List.not_mem_nil, or_false] at hw
  rcases hw with e | e | e | e
  · rw [e]; exact h1
  · rw [e]; exact h2
  · rw [e]; exact h3
  · rw [e]; exact h4
theorem lw_SW {own : String} {idx : Nat} {y : MethodName} {b : ByteArray} {L : Nat} {r : Option FieldType} {hh : List (Nat × Nat × Nat × Nat)} (h1 : Cond.methodLink own idx y ∈ lw_all) (h2 : Cond.static y ∈ lw_all) (h3 : Cond.initialized y.cls ∈ lw_all) (h4 : Cond.codeWith y b L r hh ∈ lw_all) : GoodIn lw_all (va_wsS own idx y (wsW_ y b L r hh)) := by
  refine lw_app ?_ (lw_methW h4)
  intro w hw
  simp only [List.mem_cons, List.not_mem_nil, or_false] at hw
  rcases hw with e | e | e
  · rw [e]; exact h1
  · rw [e]; exact h2
  · rw [e]; exact h3
/-- a word by its place in its run of the tables -/
theorem lw_at {r : List Cond} (hr : ∀ w ∈ r, w ∈ lw_tbl) {w : Cond} (i : Nat) (h : r[i]? = some w) : w ∈ lw_tbl := hr w (List.mem_of_getElem? h)
theorem lw_g {w : Cond} (h : w ∈ lw_tbl) (g : goodWord w = true) : w ∈ lw_all := List.mem_filter.mpr ⟨h, g⟩
theorem lw_ms : ∀ w ∈ k2_sels lw_privs, w ∈ lw_tbl := fun w h => show w ∈ k2_sels lw_privs ++ tables_1 from List.mem_append_left _ h
theorem lw_m1 : ∀ w ∈ tables_1_1, w ∈ lw_tbl := fun w h => show w ∈ k2_sels lw_privs ++ tables_1 from List.mem_append_right (k2_sels lw_privs) (show w ∈ tables_1 from List.mem_append_left _ h)
theorem lw_m2 : ∀ w ∈ tables_1_2, w ∈ lw_tbl := fun w h => show w ∈ k2_sels lw_privs ++ tables_1 from List.mem_append_right (k2_sels lw_privs) (show w ∈ tables_1 from List.mem_append_right _ h)
theorem qs0 : (Cond.selects "PageMerger" ⟨"PageMerger", "own", "(I)V"⟩ ⟨"PageMerger", "own", "(I)V"⟩) ∈ lw_all := lw_g (lw_at lw_ms 0 rfl) rfl
theorem qs1 : (Cond.selects "PageMerger" ⟨"PageMerger", "bringIn", "(II)V"⟩ ⟨"PageMerger", "bringIn", "(II)V"⟩) ∈ lw_all := lw_g (lw_at lw_ms 1 rfl) rfl
theorem qs2 : (Cond.selects "PageMerger" ⟨"PageMerger", "takeFrame", "(II)I"⟩ ⟨"PageMerger", "takeFrame", "(II)I"⟩) ∈ lw_all := lw_g (lw_at lw_ms 2 rfl) rfl
theorem qs3 : (Cond.selects "PageMerger" ⟨"PageMerger", "freeFrame", "()I"⟩ ⟨"PageMerger", "freeFrame", "()I"⟩) ∈ lw_all := lw_g (lw_at lw_ms 3 rfl) rfl
theorem qs4 : (Cond.selects "PageMerger" ⟨"PageMerger", "evict", "(I)V"⟩ ⟨"PageMerger", "evict", "(I)V"⟩) ∈ lw_all := lw_g (lw_at lw_ms 4 rfl) rfl
theorem qs5 : (Cond.selects "PageMerger" ⟨"PageMerger", "runsOf", "(I)I"⟩ ⟨"PageMerger", "runsOf", "(I)I"⟩) ∈ lw_all := lw_g (lw_at lw_ms 5 rfl) rfl
theorem qs6 : (Cond.selects "PageMerger" ⟨"PageMerger", "peek", "(II)I"⟩ ⟨"PageMerger", "peek", "(II)I"⟩) ∈ lw_all := lw_g (lw_at lw_ms 6 rfl) rfl
theorem qs7 : (Cond.selects "PageMerger" ⟨"PageMerger", "squeeze", "(II)V"⟩ ⟨"PageMerger", "squeeze", "(II)V"⟩) ∈ lw_all := lw_g (lw_at lw_ms 7 rfl) rfl
theorem qs8 : (Cond.selects "PageMerger" ⟨"PageMerger", "letGo", "(I)V"⟩ ⟨"PageMerger", "letGo", "(I)V"⟩) ∈ lw_all := lw_g (lw_at lw_ms 8 rfl) rfl
theorem qs9 : (Cond.selects "PageMerger" ⟨"PageMerger", "putAside", "(I)V"⟩ ⟨"PageMerger", "putAside", "(I)V"⟩) ∈ lw_all := lw_g (lw_at lw_ms 9 rfl) rfl
theorem qs10 : (Cond.selects "PageMerger" ⟨"PageMerger", "merge", "(I)V"⟩ ⟨"PageMerger", "merge", "(I)V"⟩) ∈ lw_all := lw_g (lw_at lw_ms 10 rfl) rfl
theorem qs11 : (Cond.selects "PageMerger" ⟨"PageMerger", "hashOf", "(I)I"⟩ ⟨"PageMerger", "hashOf", "(I)I"⟩) ∈ lw_all := lw_g (lw_at lw_ms 11 rfl) rfl
theorem qs12 : (Cond.selects "PageMerger" ⟨"PageMerger", "equalFrames", "(II)Z"⟩ ⟨"PageMerger", "equalFrames", "(II)Z"⟩) ∈ lw_all := lw_g (lw_at lw_ms 12 rfl) rfl
theorem qs13 : (Cond.selects "PageMerger" ⟨"PageMerger", "equalPages", "(II)Z"⟩ ⟨"PageMerger", "equalPages", "(II)Z"⟩) ∈ lw_all := lw_g (lw_at lw_ms 13 rfl) rfl
theorem qs14 : (Cond.selects "PageMerger" ⟨"PageMerger", "repeats", "(I)Z"⟩ ⟨"PageMerger", "repeats", "(I)Z"⟩) ∈ lw_all := lw_g (lw_at lw_ms 14 rfl) rfl
theorem qs15 : (Cond.selects "PageMergerModel" ⟨"PageMergerModel", "isPage", "(I)Z"⟩ ⟨"PageMergerModel", "isPage", "(I)Z"⟩) ∈ lw_all := lw_g (lw_at lw_ms 15 rfl) rfl
theorem qs16 : (Cond.selects "PageMergerModel" ⟨"PageMergerModel", "again", "(I)Z"⟩ ⟨"PageMergerModel", "again", "(I)Z"⟩) ∈ lw_all := lw_g (lw_at lw_ms 16 rfl) rfl
end
section
/-! PageMerger -/
set_option maxRecDepth 100000
def RX1 : String := "PageMerger"
def TX1 : u_T := fun k => match k with
  | 0 => ("PageMerger", "frames", "I", true)
  | 1 => ("PageMerger", "form", "[I", true)
  | 2 => ("PageMerger", "where", "[I", true)
  | 3 => ("PageMerger", "touched", "[Z", true)
  | 4 => ("PageMerger", "hand", "I", false)
  | 5 => ("PageMerger", "scanAt", "I", false)
  | 6 => ("PageMerger", "holders", "[I", true)
  | 7 => ("PageMerger", "memory", "[I", true)
  | 8 => ("PageMerger", "recordUsed", "[Z", true)
  | 9 => ("PageMerger", "runLength", "[I", true)
  | 10 => ("PageMerger", "firstValue", "[I", true)
  | 11 => ("PageMerger", "secondValue", "[I", true)
  | 12 => ("PageMerger", "asideUsed", "[Z", true)
  | _ => ("PageMerger", "aside", "[I", true)
def tyX1 : Nat → FieldType := fun k => match k with
  | 0 => .int
  | 1 => .array .int
  | 2 => .array .int
  | 3 => .array .boolean
  | 4 => .int
  | 5 => .int
  | 6 => .array .int
  | 7 => .array .int
  | 8 => .array .boolean
  | 9 => .array .int
  | 10 => .array .int
  | 11 => .array .int
  | 12 => .array .boolean
  | _ => .array .int
abbrev wsX10 : List Cond := u_ws RX1 TX1 14
set_option maxRecDepth 100000 in
theorem nmX1 : ∀ a, a < 14 → ∀ b, b < 14 → a ≠ b → (TX1 a).2.1 ≠ (TX1 b).2.1 := by decide +kernel
set_option maxRecDepth 100000 in
theorem tyX1_ok : ∀ k, k < 14 → parseFieldDescriptor (TX1 k).2.2.1 = some (tyX1 k) := by decide +kernel
abbrev cX1_init : ByteArray := prog_1_method_1_code
def yX1_init : MethodName := ⟨RX1, "<init>", "(I)V"⟩
theorem dX1_init_0 : decode cX1_init 0 = .ok (.aload_n 0, 1) := by decide +kernel
theorem dX1_init_1 : decode cX1_init 1 = .ok (.invokespecial 1, 3) := by decide +kernel
theorem dX1_init_4 : decode cX1_init 4 = .ok (.aload_n 0, 1) := by decide +kernel
theorem dX1_init_5 : decode cX1_init 5 = .ok (.bipush 24, 2) := by decide +kernel
theorem dX1_init_7 : decode cX1_init 7 = .ok (.newarray .int, 2) := by decide +kernel
theorem dX1_init_9 : decode cX1_init 9 = .ok (.putfield 7, 3) := by decide +kernel
theorem dX1_init_12 : decode cX1_init 12 = .ok (.aload_n 0, 1) := by decide +kernel
theorem dX1_init_13 : decode cX1_init 13 = .ok (.bipush 24, 2) := by decide +kernel
theorem dX1_init_15 : decode cX1_init 15 = .ok (.newarray .int, 2) := by decide +kernel
theorem dX1_init_17 : decode cX1_init 17 = .ok (.putfield 13, 3) := by decide +kernel
theorem dX1_init_20 : decode cX1_init 20 = .ok (.aload_n 0, 1) := by decide +kernel
theorem dX1_init_21 : decode cX1_init 21 = .ok (.bipush 24, 2) := by decide +kernel
theorem dX1_init_23 : decode cX1_init 23 = .ok (.newarray .boolean, 2) := by decide +kernel
theorem dX1_init_25 : decode cX1_init 25 = .ok (.putfield 16, 3) := by decide +kernel
theorem dX1_init_28 : decode cX1_init 28 = .ok (.aload_n 0, 1) := by decide +kernel
theorem dX1_init_29 : decode cX1_init 29 = .ok (.bipush 16, 2) := by decide +kernel
theorem dX1_init_31 : decode cX1_init 31 = .ok (.newarray .int, 2) := by decide +kernel
theorem dX1_init_33 : decode cX1_init 33 = .ok (.putfield 20, 3) := by decide +kernel
theorem dX1_init_36 : decode cX1_init 36 = .ok (.aload_n 0, 1) := by decide +kernel
theorem dX1_init_37 : decode cX1_init 37 = .ok (.bipush 64, 2) := by decide +kernel
theorem dX1_init_39 : decode cX1_init 39 = .ok (.newarray .int, 2) := by decide +kernel
theorem dX1_init_41 : decode cX1_init 41 = .ok (.putfield 23, 3) := by decide +kernel
theorem dX1_init_44 : decode cX1_init 44 = .ok (.aload_n 0, 1) := by decide +kernel
theorem dX1_init_45 : decode cX1_init 45 = .ok (.bipush 24, 2) := by decide +kernel
theorem dX1_init_47 : decode cX1_init 47 = .ok (.newarray .boolean, 2) := by decide +kernel
theorem dX1_init_49 : decode cX1_init 49 = .ok (.putfield 26, 3) := by decide +kernel
theorem dX1_init_52 : decode cX1_init 52 = .ok (.aload_n 0, 1) := by decide +kernel
theorem dX1_init_53 : decode cX1_init 53 = .ok (.bipush 24, 2) := by decide +kernel
theorem dX1_init_55 : decode cX1_init 55 = .ok (.newarray .int, 2) := by decide +kernel
theorem dX1_init_57 : decode cX1_init 57 = .ok (.putfield 29, 3) := by decide +kernel
theorem dX1_init_60 : decode cX1_init 60 = .ok (.aload_n 0, 1) := by decide +kernel
theorem dX1_init_61 : decode cX1_init 61 = .ok (.bipush 24, 2) := by decide +kernel
theorem dX1_init_63 : decode cX1_init 63 = .ok (.newarray .int, 2) := by decide +kernel
theorem dX1_init_65 : decode cX1_init 65 = .ok (.putfield 32, 3) := by decide +kernel
theorem dX1_init_68 : decode cX1_init 68 = .ok (.aload_n 0, 1) := by decide +kernel
theorem dX1_init_69 : decode cX1_init 69 = .ok (.bipush 24, 2) := by decide +kernel
theorem dX1_init_71 : decode cX1_init 71 = .ok (.newarray .int, 2) := by decide +kernel
theorem dX1_init_73 : decode cX1_init 73 = .ok (.putfield 35, 3) := by decide +kernel
theorem dX1_init_76 : decode cX1_init 76 = .ok (.aload_n 0, 1) := by decide +kernel
theorem dX1_init_77 : decode cX1_init 77 = .ok (.bipush 24, 2) := by decide +kernel
theorem dX1_init_79 : decode cX1_init 79 = .ok (.newarray .boolean, 2) := by decide +kernel
theorem dX1_init_81 : decode cX1_init 81 = .ok (.putfield 38, 3) := by decide +kernel
theorem dX1_init_84 : decode cX1_init 84 = .ok (.aload_n 0, 1) := by decide +kernel
theorem dX1_init_85 : decode cX1_init 85 = .ok (.bipush 96, 2) := by decide +kernel
theorem dX1_init_87 : decode cX1_init 87 = .ok (.newarray .int, 2) := by decide +kernel
theorem dX1_init_89 : decode cX1_init 89 = .ok (.putfield 41, 3) := by decide +kernel
theorem dX1_init_92 : decode cX1_init 92 = .ok (.iload_n 1, 1) := by decide +kernel
theorem dX1_init_93 : decode cX1_init 93 = .ok (.istore_n 2, 1) := by decide +kernel
theorem dX1_init_94 : decode cX1_init 94 = .ok (.iload_n 2, 1) := by decide +kernel
theorem dX1_init_95 : decode cX1_init 95 = .ok (.iconst 4, 1) := by decide +kernel
theorem dX1_init_96 : decode cX1_init 96 = .ok (.if_icmp .ge 5, 3) := by decide +kernel
theorem dX1_init_99 : decode cX1_init 99 = .ok (.iconst 4, 1) := by decide +kernel
theorem dX1_init_100 : decode cX1_init 100 = .ok (.istore_n 2, 1) := by decide +kernel
theorem dX1_init_101 : decode cX1_init 101 = .ok (.iload_n 2, 1) := by decide +kernel
theorem dX1_init_102 : decode cX1_init 102 = .ok (.bipush 16, 2) := by decide +kernel
theorem dX1_init_104 : decode cX1_init 104 = .ok (.if_icmp .le 6, 3) := by decide +kernel
theorem dX1_init_107 : decode cX1_init 107 = .ok (.bipush 16, 2) := by decide +kernel
theorem dX1_init_109 : decode cX1_init 109 = .ok (.istore_n 2, 1) := by decide +kernel
theorem dX1_init_110 : decode cX1_init 110 = .ok (.aload_n 0, 1) := by decide +kernel
theorem dX1_init_111 : decode cX1_init 111 = .ok (.iload_n 2, 1) := by decide +kernel
theorem dX1_init_112 : decode cX1_init 112 = .ok (.putfield 44, 3) := by decide +kernel
theorem dX1_init_115 : decode cX1_init 115 = .ok (.iconst 0, 1) := by decide +kernel
theorem dX1_init_116 : decode cX1_init 116 = .ok (.istore_n 3, 1) := by decide +kernel
theorem dX1_init_117 : decode cX1_init 117 = .ok (.iload_n 3, 1) := by decide +kernel
theorem dX1_init_118 : decode cX1_init 118 = .ok (.bipush 24, 2) := by decide +kernel
theorem dX1_init_120 : decode cX1_init 120 = .ok (.if_icmp .ge 37, 3) := by decide +kernel
theorem dX1_init_123 : decode cX1_init 123 = .ok (.aload_n 0, 1) := by decide +kernel
theorem dX1_init_124 : decode cX1_init 124 = .ok (.getfield 7, 3) := by decide +kernel
theorem dX1_init_127 : decode cX1_init 127 = .ok (.iload_n 3, 1) := by decide +kernel
theorem dX1_init_128 : decode cX1_init 128 = .ok (.iconst 2, 1) := by decide +kernel
theorem dX1_init_129 : decode cX1_init 129 = .ok (.iastore, 1) := by decide +kernel
theorem dX1_init_130 : decode cX1_init 130 = .ok (.aload_n 0, 1) := by decide +kernel
theorem dX1_init_131 : decode cX1_init 131 = .ok (.getfield 13, 3) := by decide +kernel
theorem dX1_init_134 : decode cX1_init 134 = .ok (.iload_n 3, 1) := by decide +kernel
theorem dX1_init_135 : decode cX1_init 135 = .ok (.iload_n 3, 1) := by decide +kernel
theorem dX1_init_136 : decode cX1_init 136 = .ok (.iastore, 1) := by decide +kernel
theorem dX1_init_137 : decode cX1_init 137 = .ok (.aload_n 0, 1) := by decide +kernel
theorem dX1_init_138 : decode cX1_init 138 = .ok (.getfield 26, 3) := by decide +kernel
theorem dX1_init_141 : decode cX1_init 141 = .ok (.iload_n 3, 1) := by decide +kernel
theorem dX1_init_142 : decode cX1_init 142 = .ok (.iconst 1, 1) := by decide +kernel
theorem dX1_init_143 : decode cX1_init 143 = .ok (.bastore, 1) := by decide +kernel
theorem dX1_init_144 : decode cX1_init 144 = .ok (.aload_n 0, 1) := by decide +kernel
theorem dX1_init_145 : decode cX1_init 145 = .ok (.getfield 29, 3) := by decide +kernel
theorem dX1_init_148 : decode cX1_init 148 = .ok (.iload_n 3, 1) := by decide +kernel
theorem dX1_init_149 : decode cX1_init 149 = .ok (.iconst 4, 1) := by decide +kernel
theorem dX1_init_150 : decode cX1_init 150 = .ok (.iastore, 1) := by decide +kernel
theorem dX1_init_151 : decode cX1_init 151 = .ok (.iinc 3 1, 3) := by decide +kernel
theorem dX1_init_154 : decode cX1_init 154 = .ok (.goto (-37), 3) := by decide +kernel
theorem dX1_init_157 : decode cX1_init 157 = .ok (.return_, 1) := by decide +kernel
abbrev cX1_write : ByteArray := prog_1_method_13_code
def yX1_write : MethodName := ⟨RX1, "write", "(III)I"⟩
theorem dX1_write_0 : decode cX1_write 0 = .ok (.iload_n 1, 1) := by decide +kernel
theorem dX1_write_1 : decode cX1_write 1 = .ok (.invokestatic 83, 3) := by decide +kernel
theorem dX1_write_4 : decode cX1_write 4 = .ok (.ifCond .eq 5, 3) := by decide +kernel
theorem dX1_write_7 : decode cX1_write 7 = .ok (.iconst (-1), 1) := by decide +kernel
theorem dX1_write_8 : decode cX1_write 8 = .ok (.ireturn, 1) := by decide +kernel
theorem dX1_write_9 : decode cX1_write 9 = .ok (.iload_n 2, 1) := by decide +kernel
theorem dX1_write_10 : decode cX1_write 10 = .ok (.ifCond .lt 8, 3) := by decide +kernel
theorem dX1_write_13 : decode cX1_write 13 = .ok (.iload_n 2, 1) := by decide +kernel
theorem dX1_write_14 : decode cX1_write 14 = .ok (.iconst 4, 1) := by decide +kernel
theorem dX1_write_15 : decode cX1_write 15 = .ok (.if_icmp .lt 6, 3) := by decide +kernel
theorem dX1_write_18 : decode cX1_write 18 = .ok (.bipush (-2), 2) := by decide +kernel
theorem dX1_write_20 : decode cX1_write 20 = .ok (.ireturn, 1) := by decide +kernel
theorem dX1_write_21 : decode cX1_write 21 = .ok (.aload_n 0, 1) := by decide +kernel
theorem dX1_write_22 : decode cX1_write 22 = .ok (.iload_n 1, 1) := by decide +kernel
theorem dX1_write_23 : decode cX1_write 23 = .ok (.invokevirtual 87, 3) := by decide +kernel
theorem dX1_write_26 : decode cX1_write 26 = .ok (.aload_n 0, 1) := by decide +kernel
theorem dX1_write_27 : decode cX1_write 27 = .ok (.getfield 13, 3) := by decide +kernel
theorem dX1_write_30 : decode cX1_write 30 = .ok (.iload_n 1, 1) := by decide +kernel
theorem dX1_write_31 : decode cX1_write 31 = .ok (.iaload, 1) := by decide +kernel
theorem dX1_write_32 : decode cX1_write 32 = .ok (.iconst 4, 1) := by decide +kernel
theorem dX1_write_33 : decode cX1_write 33 = .ok (.imul, 1) := by decide +kernel
theorem dX1_write_34 : decode cX1_write 34 = .ok (.iload_n 2, 1) := by decide +kernel
theorem dX1_write_35 : decode cX1_write 35 = .ok (.iadd, 1) := by decide +kernel
theorem dX1_write_36 : decode cX1_write 36 = .ok (.istore 4, 2) := by decide +kernel
theorem dX1_write_38 : decode cX1_write 38 = .ok (.aload_n 0, 1) := by decide +kernel
theorem dX1_write_39 : decode cX1_write 39 = .ok (.getfield 23, 3) := by decide +kernel
theorem dX1_write_42 : decode cX1_write 42 = .ok (.iload 4, 2) := by decide +kernel
theorem dX1_write_44 : decode cX1_write 44 = .ok (.iaload, 1) := by decide +kernel
theorem dX1_write_45 : decode cX1_write 45 = .ok (.istore 5, 2) := by decide +kernel
theorem dX1_write_47 : decode cX1_write 47 = .ok (.aload_n 0, 1) := by decide +kernel
theorem dX1_write_48 : decode cX1_write 48 = .ok (.getfield 23, 3) := by decide +kernel
theorem dX1_write_51 : decode cX1_write 51 = .ok (.iload 4, 2) := by decide +kernel
theorem dX1_write_53 : decode cX1_write 53 = .ok (.iload_n 3, 1) := by decide +kernel
theorem dX1_write_54 : decode cX1_write 54 = .ok (.iastore, 1) := by decide +kernel
theorem dX1_write_55 : decode cX1_write 55 = .ok (.iload 5, 2) := by decide +kernel
theorem dX1_write_57 : decode cX1_write 57 = .ok (.ireturn, 1) := by decide +kernel
abbrev cX1_bad : ByteArray := prog_1_method_2_code
def yX1_bad : MethodName := ⟨RX1, "bad", "(I)Z"⟩
theorem dX1_bad_0 : decode cX1_bad 0 = .ok (.iload_n 0, 1) := by decide +kernel
theorem dX1_bad_1 : decode cX1_bad 1 = .ok (.ifCond .lt 9, 3) := by decide +kernel
theorem dX1_bad_4 : decode cX1_bad 4 = .ok (.iload_n 0, 1) := by decide +kernel
theorem dX1_bad_5 : decode cX1_bad 5 = .ok (.bipush 24, 2) := by decide +kernel
theorem dX1_bad_7 : decode cX1_bad 7 = .ok (.if_icmp .lt 7, 3) := by decide +kernel
theorem dX1_bad_10 : decode cX1_bad 10 = .ok (.iconst 1, 1) := by decide +kernel
theorem dX1_bad_11 : decode cX1_bad 11 = .ok (.goto 4, 3) := by decide +kernel
theorem dX1_bad_14 : decode cX1_bad 14 = .ok (.iconst 0, 1) := by decide +kernel
theorem dX1_bad_15 : decode cX1_bad 15 = .ok (.ireturn, 1) := by decide +kernel
abbrev cX1_own : ByteArray := prog_1_method_12_code
def yX1_own : MethodName := ⟨RX1, "own", "(I)V"⟩
theorem dX1_own_0 : decode cX1_own 0 = .ok (.aload_n 0, 1) := by decide +kernel
theorem dX1_own_1 : decode cX1_own 1 = .ok (.iload_n 1, 1) := by decide +kernel
theorem dX1_own_2 : decode cX1_own 2 = .ok (.iload_n 1, 1) := by decide +kernel
theorem dX1_own_3 : decode cX1_own 3 = .ok (.invokevirtual 80, 3) := by decide +kernel
theorem dX1_own_6 : decode cX1_own 6 = .ok (.aload_n 0, 1) := by decide +kernel
theorem dX1_own_7 : decode cX1_own 7 = .ok (.getfield 13, 3) := by decide +kernel
theorem dX1_own_10 : decode cX1_own 10 = .ok (.iload_n 1, 1) := by decide +kernel
theorem dX1_own_11 : decode cX1_own 11 = .ok (.iaload, 1) := by decide +kernel
theorem dX1_own_12 : decode cX1_own 12 = .ok (.istore_n 2, 1) := by decide +kernel
theorem dX1_own_13 : decode cX1_own 13 = .ok (.aload_n 0, 1) := by decide +kernel
theorem dX1_own_14 : decode cX1_own 14 = .ok (.getfield 20, 3) := by decide +kernel
theorem dX1_own_17 : decode cX1_own 17 = .ok (.iload_n 2, 1) := by decide +kernel
theorem dX1_own_18 : decode cX1_own 18 = .ok (.iaload, 1) := by decide +kernel
theorem dX1_own_19 : decode cX1_own 19 = .ok (.iconst 1, 1) := by decide +kernel
theorem dX1_own_20 : decode cX1_own 20 = .ok (.if_icmp .ne 4, 3) := by decide +kernel
theorem dX1_own_23 : decode cX1_own 23 = .ok (.return_, 1) := by decide +kernel
theorem dX1_own_24 : decode cX1_own 24 = .ok (.aload_n 0, 1) := by decide +kernel
theorem dX1_own_25 : decode cX1_own 25 = .ok (.iload_n 1, 1) := by decide +kernel
theorem dX1_own_26 : decode cX1_own 26 = .ok (.iload_n 1, 1) := by decide +kernel
theorem dX1_own_27 : decode cX1_own 27 = .ok (.invokevirtual 77, 3) := by decide +kernel
theorem dX1_own_30 : decode cX1_own 30 = .ok (.istore_n 3, 1) := by decide +kernel
theorem dX1_own_31 : decode cX1_own 31 = .ok (.iconst 0, 1) := by decide +kernel
theorem dX1_own_32 : decode cX1_own 32 = .ok (.istore 4, 2) := by decide +kernel
theorem dX1_own_34 : decode cX1_own 34 = .ok (.iload 4, 2) := by decide +kernel
theorem dX1_own_36 : decode cX1_own 36 = .ok (.iconst 4, 1) := by decide +kernel
theorem dX1_own_37 : decode cX1_own 37 = .ok (.if_icmp .ge 31, 3) := by decide +kernel
theorem dX1_own_40 : decode cX1_own 40 = .ok (.aload_n 0, 1) := by decide +kernel
theorem dX1_own_41 : decode cX1_own 41 = .ok (.getfield 23, 3) := by decide +kernel
theorem dX1_own_44 : decode cX1_own 44 = .ok (.iload_n 3, 1) := by decide +kernel
theorem dX1_own_45 : decode cX1_own 45 = .ok (.iconst 4, 1) := by decide +kernel
theorem dX1_own_46 : decode cX1_own 46 = .ok (.imul, 1) := by decide +kernel
theorem dX1_own_47 : decode cX1_own 47 = .ok (.iload 4, 2) := by decide +kernel
theorem dX1_own_49 : decode cX1_own 49 = .ok (.iadd, 1) := by decide +kernel
theorem dX1_own_50 : decode cX1_own 50 = .ok (.aload_n 0, 1) := by decide +kernel
theorem dX1_own_51 : decode cX1_own 51 = .ok (.getfield 23, 3) := by decide +kernel
theorem dX1_own_54 : decode cX1_own 54 = .ok (.iload_n 2, 1) := by decide +kernel
theorem dX1_own_55 : decode cX1_own 55 = .ok (.iconst 4, 1) := by decide +kernel
theorem dX1_own_56 : decode cX1_own 56 = .ok (.imul, 1) := by decide +kernel
theorem dX1_own_57 : decode cX1_own 57 = .ok (.iload 4, 2) := by decide +kernel
theorem dX1_own_59 : decode cX1_own 59 = .ok (.iadd, 1) := by decide +kernel
theorem dX1_own_60 : decode cX1_own 60 = .ok (.iaload, 1) := by decide +kernel
theorem dX1_own_61 : decode cX1_own 61 = .ok (.iastore, 1) := by decide +kernel
theorem dX1_own_62 : decode cX1_own 62 = .ok (.iinc 4 1, 3) := by decide +kernel
theorem dX1_own_65 : decode cX1_own 65 = .ok (.goto (-31), 3) := by decide +kernel
theorem dX1_own_68 : decode cX1_own 68 = .ok (.aload_n 0, 1) := by decide +kernel
theorem dX1_own_69 : decode cX1_own 69 = .ok (.getfield 20, 3) := by decide +kernel
theorem dX1_own_72 : decode cX1_own 72 = .ok (.iload_n 2, 1) := by decide +kernel
theorem dX1_own_73 : decode cX1_own 73 = .ok (.dup2, 1) := by decide +kernel
theorem dX1_own_74 : decode cX1_own 74 = .ok (.iaload, 1) := by decide +kernel
theorem dX1_own_75 : decode cX1_own 75 = .ok (.iconst 1, 1) := by decide +kernel
theorem dX1_own_76 : decode cX1_own 76 = .ok (.isub, 1) := by decide +kernel
theorem dX1_own_77 : decode cX1_own 77 = .ok (.iastore, 1) := by decide +kernel
theorem dX1_own_78 : decode cX1_own 78 = .ok (.aload_n 0, 1) := by decide +kernel
theorem dX1_own_79 : decode cX1_own 79 = .ok (.getfield 20, 3) := by decide +kernel
theorem dX1_own_82 : decode cX1_own 82 = .ok (.iload_n 3, 1) := by decide +kernel
theorem dX1_own_83 : decode cX1_own 83 = .ok (.iconst 1, 1) := by decide +kernel
theorem dX1_own_84 : decode cX1_own 84 = .ok (.iastore, 1) := by decide +kernel
theorem dX1_own_85 : decode cX1_own 85 = .ok (.aload_n 0, 1) := by decide +kernel
theorem dX1_own_86 : decode cX1_own 86 = .ok (.getfield 13, 3) := by decide +kernel
theorem dX1_own_89 : decode cX1_own 89 = .ok (.iload_n 1, 1) := by decide +kernel
theorem dX1_own_90 : decode cX1_own 90 = .ok (.iload_n 3, 1) := by decide +kernel
theorem dX1_own_91 : decode cX1_own 91 = .ok (.iastore, 1) := by decide +kernel
theorem dX1_own_92 : decode cX1_own 92 = .ok (.return_, 1) := by decide +kernel
abbrev cX1_bringIn : ByteArray := prog_1_method_11_code
def yX1_bringIn : MethodName := ⟨RX1, "bringIn", "(II)V"⟩
theorem dX1_bringIn_0 : decode cX1_bringIn 0 = .ok (.aload_n 0, 1) := by decide +kernel
theorem dX1_bringIn_1 : decode cX1_bringIn 1 = .ok (.getfield 16, 3) := by decide +kernel
theorem dX1_bringIn_4 : decode cX1_bringIn 4 = .ok (.iload_n 1, 1) := by decide +kernel
theorem dX1_bringIn_5 : decode cX1_bringIn 5 = .ok (.iconst 1, 1) := by decide +kernel
theorem dX1_bringIn_6 : decode cX1_bringIn 6 = .ok (.bastore, 1) := by decide +kernel
theorem dX1_bringIn_7 : decode cX1_bringIn 7 = .ok (.aload_n 0, 1) := by decide +kernel
theorem dX1_bringIn_8 : decode cX1_bringIn 8 = .ok (.getfield 7, 3) := by decide +kernel
theorem dX1_bringIn_11 : decode cX1_bringIn 11 = .ok (.iload_n 1, 1) := by decide +kernel
theorem dX1_bringIn_12 : decode cX1_bringIn 12 = .ok (.iaload, 1) := by decide +kernel
theorem dX1_bringIn_13 : decode cX1_bringIn 13 = .ok (.iconst 1, 1) := by decide +kernel
theorem dX1_bringIn_14 : decode cX1_bringIn 14 = .ok (.if_icmp .ne 4, 3) := by decide +kernel
theorem dX1_bringIn_17 : decode cX1_bringIn 17 = .ok (.return_, 1) := by decide +kernel
theorem dX1_bringIn_18 : decode cX1_bringIn 18 = .ok (.aload_n 0, 1) := by decide +kernel
theorem dX1_bringIn_19 : decode cX1_bringIn 19 = .ok (.iload_n 1, 1) := by decide +kernel
theorem dX1_bringIn_20 : decode cX1_bringIn 20 = .ok (.iload_n 2, 1) := by decide +kernel
theorem dX1_bringIn_21 : decode cX1_bringIn 21 = .ok (.invokevirtual 77, 3) := by decide +kernel
theorem dX1_bringIn_24 : decode cX1_bringIn 24 = .ok (.istore_n 3, 1) := by decide +kernel
theorem dX1_bringIn_25 : decode cX1_bringIn 25 = .ok (.iconst 0, 1) := by decide +kernel
theorem dX1_bringIn_26 : decode cX1_bringIn 26 = .ok (.istore 4, 2) := by decide +kernel
theorem dX1_bringIn_28 : decode cX1_bringIn 28 = .ok (.iload 4, 2) := by decide +kernel
theorem dX1_bringIn_30 : decode cX1_bringIn 30 = .ok (.iconst 4, 1) := by decide +kernel
theorem dX1_bringIn_31 : decode cX1_bringIn 31 = .ok (.if_icmp .ge 27, 3) := by decide +kernel
theorem dX1_bringIn_34 : decode cX1_bringIn 34 = .ok (.aload_n 0, 1) := by decide +kernel
theorem dX1_bringIn_35 : decode cX1_bringIn 35 = .ok (.getfield 23, 3) := by decide +kernel
theorem dX1_bringIn_38 : decode cX1_bringIn 38 = .ok (.iload_n 3, 1) := by decide +kernel
theorem dX1_bringIn_39 : decode cX1_bringIn 39 = .ok (.iconst 4, 1) := by decide +kernel
theorem dX1_bringIn_40 : decode cX1_bringIn 40 = .ok (.imul, 1) := by decide +kernel
theorem dX1_bringIn_41 : decode cX1_bringIn 41 = .ok (.iload 4, 2) := by decide +kernel
theorem dX1_bringIn_43 : decode cX1_bringIn 43 = .ok (.iadd, 1) := by decide +kernel
theorem dX1_bringIn_44 : decode cX1_bringIn 44 = .ok (.aload_n 0, 1) := by decide +kernel
theorem dX1_bringIn_45 : decode cX1_bringIn 45 = .ok (.iload_n 1, 1) := by decide +kernel
theorem dX1_bringIn_46 : decode cX1_bringIn 46 = .ok (.iload 4, 2) := by decide +kernel
theorem dX1_bringIn_48 : decode cX1_bringIn 48 = .ok (.invokevirtual 48, 3) := by decide +kernel
theorem dX1_bringIn_51 : decode cX1_bringIn 51 = .ok (.iastore, 1) := by decide +kernel
theorem dX1_bringIn_52 : decode cX1_bringIn 52 = .ok (.iinc 4 1, 3) := by decide +kernel
theorem dX1_bringIn_55 : decode cX1_bringIn 55 = .ok (.goto (-27), 3) := by decide +kernel
theorem dX1_bringIn_58 : decode cX1_bringIn 58 = .ok (.aload_n 0, 1) := by decide +kernel
theorem dX1_bringIn_59 : decode cX1_bringIn 59 = .ok (.iload_n 1, 1) := by decide +kernel
theorem dX1_bringIn_60 : decode cX1_bringIn 60 = .ok (.invokevirtual 52, 3) := by decide +kernel
theorem dX1_bringIn_63 : decode cX1_bringIn 63 = .ok (.aload_n 0, 1) := by decide +kernel
theorem dX1_bringIn_64 : decode cX1_bringIn 64 = .ok (.getfield 20, 3) := by decide +kernel
theorem dX1_bringIn_67 : decode cX1_bringIn 67 = .ok (.iload_n 3, 1) := by decide +kernel
theorem dX1_bringIn_68 : decode cX1_bringIn 68 = .ok (.iconst 1, 1) := by decide +kernel
theorem dX1_bringIn_69 : decode cX1_bringIn 69 = .ok (.iastore, 1) := by decide +kernel
theorem dX1_bringIn_70 : decode cX1_bringIn 70 = .ok (.aload_n 0, 1) := by decide +kernel
theorem dX1_bringIn_71 : decode cX1_bringIn 71 = .ok (.getfield 7, 3) := by decide +kernel
theorem dX1_bringIn_74 : decode cX1_bringIn 74 = .ok (.iload_n 1, 1) := by decide +kernel
theorem dX1_bringIn_75 : decode cX1_bringIn 75 = .ok (.iconst 1, 1) := by decide +kernel
theorem dX1_bringIn_76 : decode cX1_bringIn 76 = .ok (.iastore, 1) := by decide +kernel
theorem dX1_bringIn_77 : decode cX1_bringIn 77 = .ok (.aload_n 0, 1) := by decide +kernel
theorem dX1_bringIn_78 : decode cX1_bringIn 78 = .ok (.getfield 13, 3) := by decide +kernel
theorem dX1_bringIn_81 : decode cX1_bringIn 81 = .ok (.iload_n 1, 1) := by decide +kernel
theorem dX1_bringIn_82 : decode cX1_bringIn 82 = .ok (.iload_n 3, 1) := by decide +kernel
theorem dX1_bringIn_83 : decode cX1_bringIn 83 = .ok (.iastore, 1) := by decide +kernel
theorem dX1_bringIn_84 : decode cX1_bringIn 84 = .ok (.return_, 1) := by decide +kernel
abbrev cX1_takeFrame : ByteArray := prog_1_method_10_code
def yX1_takeFrame : MethodName := ⟨RX1, "takeFrame", "(II)I"⟩
theorem dX1_takeFrame_0 : decode cX1_takeFrame 0 = .ok (.aload_n 0, 1) := by decide +kernel
theorem dX1_takeFrame_1 : decode cX1_takeFrame 1 = .ok (.invokevirtual 67, 3) := by decide +kernel
theorem dX1_takeFrame_4 : decode cX1_takeFrame 4 = .ok (.istore_n 3, 1) := by decide +kernel
theorem dX1_takeFrame_5 : decode cX1_takeFrame 5 = .ok (.iconst 0, 1) := by decide +kernel
theorem dX1_takeFrame_6 : decode cX1_takeFrame 6 = .ok (.istore 4, 2) := by decide +kernel
theorem dX1_takeFrame_8 : decode cX1_takeFrame 8 = .ok (.iload 4, 2) := by decide +kernel
theorem dX1_takeFrame_10 : decode cX1_takeFrame 10 = .ok (.bipush 72, 2) := by decide +kernel
theorem dX1_takeFrame_12 : decode cX1_takeFrame 12 = .ok (.if_icmp .ge 99, 3) := by decide +kernel
theorem dX1_takeFrame_15 : decode cX1_takeFrame 15 = .ok (.iload_n 3, 1) := by decide +kernel
theorem dX1_takeFrame_16 : decode cX1_takeFrame 16 = .ok (.ifCond .ge 95, 3) := by decide +kernel
theorem dX1_takeFrame_19 : decode cX1_takeFrame 19 = .ok (.aload_n 0, 1) := by decide +kernel
theorem dX1_takeFrame_20 : decode cX1_takeFrame 20 = .ok (.getfield 71, 3) := by decide +kernel
theorem dX1_takeFrame_23 : decode cX1_takeFrame 23 = .ok (.istore 5, 2) := by decide +kernel
theorem dX1_takeFrame_25 : decode cX1_takeFrame 25 = .ok (.aload_n 0, 1) := by decide +kernel
theorem dX1_takeFrame_26 : decode cX1_takeFrame 26 = .ok (.aload_n 0, 1) := by decide +kernel
theorem dX1_takeFrame_27 : decode cX1_takeFrame 27 = .ok (.getfield 71, 3) := by decide +kernel
theorem dX1_takeFrame_30 : decode cX1_takeFrame 30 = .ok (.iconst 1, 1) := by decide +kernel
theorem dX1_takeFrame_31 : decode cX1_takeFrame 31 = .ok (.iadd, 1) := by decide +kernel
theorem dX1_takeFrame_32 : decode cX1_takeFrame 32 = .ok (.bipush 24, 2) := by decide +kernel
theorem dX1_takeFrame_34 : decode cX1_takeFrame 34 = .ok (.if_icmp .ge 12, 3) := by decide +kernel
theorem dX1_takeFrame_37 : decode cX1_takeFrame 37 = .ok (.aload_n 0, 1) := by decide +kernel
theorem dX1_takeFrame_38 : decode cX1_takeFrame 38 = .ok (.getfield 71, 3) := by decide +kernel
theorem dX1_takeFrame_41 : decode cX1_takeFrame 41 = .ok (.iconst 1, 1) := by decide +kernel
theorem dX1_takeFrame_42 : decode cX1_takeFrame 42 = .ok (.iadd, 1) := by decide +kernel
theorem dX1_takeFrame_43 : decode cX1_takeFrame 43 = .ok (.goto 4, 3) := by decide +kernel
theorem dX1_takeFrame_46 : decode cX1_takeFrame 46 = .ok (.iconst 0, 1) := by decide +kernel
theorem dX1_takeFrame_47 : decode cX1_takeFrame 47 = .ok (.putfield 71, 3) := by decide +kernel
theorem dX1_takeFrame_50 : decode cX1_takeFrame 50 = .ok (.aload_n 0, 1) := by decide +kernel
theorem dX1_takeFrame_51 : decode cX1_takeFrame 51 = .ok (.getfield 7, 3) := by decide +kernel
theorem dX1_takeFrame_54 : decode cX1_takeFrame 54 = .ok (.iload 5, 2) := by decide +kernel
theorem dX1_takeFrame_56 : decode cX1_takeFrame 56 = .ok (.iaload, 1) := by decide +kernel
theorem dX1_takeFrame_57 : decode cX1_takeFrame 57 = .ok (.iconst 1, 1) := by decide +kernel
theorem dX1_takeFrame_58 : decode cX1_takeFrame 58 = .ok (.if_icmp .ne 42, 3) := by decide +kernel
theorem dX1_takeFrame_61 : decode cX1_takeFrame 61 = .ok (.iload 5, 2) := by decide +kernel
theorem dX1_takeFrame_63 : decode cX1_takeFrame 63 = .ok (.iload_n 1, 1) := by decide +kernel
theorem dX1_takeFrame_64 : decode cX1_takeFrame 64 = .ok (.if_icmp .eq 36, 3) := by decide +kernel
theorem dX1_takeFrame_67 : decode cX1_takeFrame 67 = .ok (.iload 5, 2) := by decide +kernel
theorem dX1_takeFrame_69 : decode cX1_takeFrame 69 = .ok (.iload_n 2, 1) := by decide +kernel
theorem dX1_takeFrame_70 : decode cX1_takeFrame 70 = .ok (.if_icmp .eq 30, 3) := by decide +kernel
theorem dX1_takeFrame_73 : decode cX1_takeFrame 73 = .ok (.aload_n 0, 1) := by decide +kernel
theorem dX1_takeFrame_74 : decode cX1_takeFrame 74 = .ok (.getfield 16, 3) := by decide +kernel
theorem dX1_takeFrame_77 : decode cX1_takeFrame 77 = .ok (.iload 5, 2) := by decide +kernel
theorem dX1_takeFrame_79 : decode cX1_takeFrame 79 = .ok (.baload, 1) := by decide +kernel
theorem dX1_takeFrame_80 : decode cX1_takeFrame 80 = .ok (.ifCond .eq 14, 3) := by decide +kernel
theorem dX1_takeFrame_83 : decode cX1_takeFrame 83 = .ok (.aload_n 0, 1) := by decide +kernel
theorem dX1_takeFrame_84 : decode cX1_takeFrame 84 = .ok (.getfield 16, 3) := by decide +kernel
theorem dX1_takeFrame_87 : decode cX1_takeFrame 87 = .ok (.iload 5, 2) := by decide +kernel
theorem dX1_takeFrame_89 : decode cX1_takeFrame 89 = .ok (.iconst 0, 1) := by decide +kernel
theorem dX1_takeFrame_90 : decode cX1_takeFrame 90 = .ok (.bastore, 1) := by decide +kernel
theorem dX1_takeFrame_91 : decode cX1_takeFrame 91 = .ok (.goto 9, 3) := by decide +kernel
theorem dX1_takeFrame_94 : decode cX1_takeFrame 94 = .ok (.aload_n 0, 1) := by decide +kernel
theorem dX1_takeFrame_95 : decode cX1_takeFrame 95 = .ok (.iload 5, 2) := by decide +kernel
theorem dX1_takeFrame_97 : decode cX1_takeFrame 97 = .ok (.invokevirtual 74, 3) := by decide +kernel
theorem dX1_takeFrame_100 : decode cX1_takeFrame 100 = .ok (.aload_n 0, 1) := by decide +kernel
theorem dX1_takeFrame_101 : decode cX1_takeFrame 101 = .ok (.invokevirtual 67, 3) := by decide +kernel
theorem dX1_takeFrame_104 : decode cX1_takeFrame 104 = .ok (.istore_n 3, 1) := by decide +kernel
theorem dX1_takeFrame_105 : decode cX1_takeFrame 105 = .ok (.iinc 4 1, 3) := by decide +kernel
theorem dX1_takeFrame_108 : decode cX1_takeFrame 108 = .ok (.goto (-100), 3) := by decide +kernel
theorem dX1_takeFrame_111 : decode cX1_takeFrame 111 = .ok (.iload_n 3, 1) := by decide +kernel
theorem dX1_takeFrame_112 : decode cX1_takeFrame 112 = .ok (.ifCond .ge 7, 3) := by decide +kernel
theorem dX1_takeFrame_115 : decode cX1_takeFrame 115 = .ok (.iconst 0, 1) := by decide +kernel
theorem dX1_takeFrame_116 : decode cX1_takeFrame 116 = .ok (.goto 4, 3) := by decide +kernel
theorem dX1_takeFrame_119 : decode cX1_takeFrame 119 = .ok (.iload_n 3, 1) := by decide +kernel
theorem dX1_takeFrame_120 : decode cX1_takeFrame 120 = .ok (.ireturn, 1) := by decide +kernel
abbrev cX1_freeFrame : ByteArray := prog_1_method_9_code
def yX1_freeFrame : MethodName := ⟨RX1, "freeFrame", "()I"⟩
theorem dX1_freeFrame_0 : decode cX1_freeFrame 0 = .ok (.iconst 0, 1) := by decide +kernel
theorem dX1_freeFrame_1 : decode cX1_freeFrame 1 = .ok (.istore_n 1, 1) := by decide +kernel
theorem dX1_freeFrame_2 : decode cX1_freeFrame 2 = .ok (.iload_n 1, 1) := by decide +kernel
theorem dX1_freeFrame_3 : decode cX1_freeFrame 3 = .ok (.aload_n 0, 1) := by decide +kernel
theorem dX1_freeFrame_4 : decode cX1_freeFrame 4 = .ok (.getfield 44, 3) := by decide +kernel
theorem dX1_freeFrame_7 : decode cX1_freeFrame 7 = .ok (.if_icmp .ge 20, 3) := by decide +kernel
theorem dX1_freeFrame_10 : decode cX1_freeFrame 10 = .ok (.aload_n 0, 1) := by decide +kernel
theorem dX1_freeFrame_11 : decode cX1_freeFrame 11 = .ok (.getfield 20, 3) := by decide +kernel
theorem dX1_freeFrame_14 : decode cX1_freeFrame 14 = .ok (.iload_n 1, 1) := by decide +kernel
theorem dX1_freeFrame_15 : decode cX1_freeFrame 15 = .ok (.iaload, 1) := by decide +kernel
theorem dX1_freeFrame_16 : decode cX1_freeFrame 16 = .ok (.ifCond .ne 5, 3) := by decide +kernel
theorem dX1_freeFrame_19 : decode cX1_freeFrame 19 = .ok (.iload_n 1, 1) := by decide +kernel
theorem dX1_freeFrame_20 : decode cX1_freeFrame 20 = .ok (.ireturn, 1) := by decide +kernel
theorem dX1_freeFrame_21 : decode cX1_freeFrame 21 = .ok (.iinc 1 1, 3) := by decide +kernel
theorem dX1_freeFrame_24 : decode cX1_freeFrame 24 = .ok (.goto (-22), 3) := by decide +kernel
theorem dX1_freeFrame_27 : decode cX1_freeFrame 27 = .ok (.iconst (-1), 1) := by decide +kernel
theorem dX1_freeFrame_28 : decode cX1_freeFrame 28 = .ok (.ireturn, 1) := by decide +kernel
abbrev cX1_evict : ByteArray := prog_1_method_8_code
def yX1_evict : MethodName := ⟨RX1, "evict", "(I)V"⟩
theorem dX1_evict_0 : decode cX1_evict 0 = .ok (.aload_n 0, 1) := by decide +kernel
theorem dX1_evict_1 : decode cX1_evict 1 = .ok (.iload_n 1, 1) := by decide +kernel
theorem dX1_evict_2 : decode cX1_evict 2 = .ok (.invokevirtual 56, 3) := by decide +kernel
theorem dX1_evict_5 : decode cX1_evict 5 = .ok (.istore_n 2, 1) := by decide +kernel
theorem dX1_evict_6 : decode cX1_evict 6 = .ok (.iload_n 2, 1) := by decide +kernel
theorem dX1_evict_7 : decode cX1_evict 7 = .ok (.ifCond .le 12, 3) := by decide +kernel
theorem dX1_evict_10 : decode cX1_evict 10 = .ok (.aload_n 0, 1) := by decide +kernel
theorem dX1_evict_11 : decode cX1_evict 11 = .ok (.iload_n 1, 1) := by decide +kernel
theorem dX1_evict_12 : decode cX1_evict 12 = .ok (.iload_n 2, 1) := by decide +kernel
theorem dX1_evict_13 : decode cX1_evict 13 = .ok (.invokevirtual 60, 3) := by decide +kernel
theorem dX1_evict_16 : decode cX1_evict 16 = .ok (.goto 8, 3) := by decide +kernel
theorem dX1_evict_19 : decode cX1_evict 19 = .ok (.aload_n 0, 1) := by decide +kernel
theorem dX1_evict_20 : decode cX1_evict 20 = .ok (.iload_n 1, 1) := by decide +kernel
theorem dX1_evict_21 : decode cX1_evict 21 = .ok (.invokevirtual 64, 3) := by decide +kernel
theorem dX1_evict_24 : decode cX1_evict 24 = .ok (.return_, 1) := by decide +kernel
abbrev cX1_runsOf : ByteArray := prog_1_method_5_code
def yX1_runsOf : MethodName := ⟨RX1, "runsOf", "(I)I"⟩
theorem dX1_runsOf_0 : decode cX1_runsOf 0 = .ok (.iconst 1, 1) := by decide +kernel
theorem dX1_runsOf_1 : decode cX1_runsOf 1 = .ok (.istore_n 2, 1) := by decide +kernel
theorem dX1_runsOf_2 : decode cX1_runsOf 2 = .ok (.aload_n 0, 1) := by decide +kernel
theorem dX1_runsOf_3 : decode cX1_runsOf 3 = .ok (.iload_n 1, 1) := by decide +kernel
theorem dX1_runsOf_4 : decode cX1_runsOf 4 = .ok (.iconst 0, 1) := by decide +kernel
theorem dX1_runsOf_5 : decode cX1_runsOf 5 = .ok (.invokevirtual 48, 3) := by decide +kernel
theorem dX1_runsOf_8 : decode cX1_runsOf 8 = .ok (.istore_n 3, 1) := by decide +kernel
theorem dX1_runsOf_9 : decode cX1_runsOf 9 = .ok (.iload_n 2, 1) := by decide +kernel
theorem dX1_runsOf_10 : decode cX1_runsOf 10 = .ok (.iconst 4, 1) := by decide +kernel
theorem dX1_runsOf_11 : decode cX1_runsOf 11 = .ok (.if_icmp .ge 19, 3) := by decide +kernel
theorem dX1_runsOf_14 : decode cX1_runsOf 14 = .ok (.aload_n 0, 1) := by decide +kernel
theorem dX1_runsOf_15 : decode cX1_runsOf 15 = .ok (.iload_n 1, 1) := by decide +kernel
theorem dX1_runsOf_16 : decode cX1_runsOf 16 = .ok (.iload_n 2, 1) := by decide +kernel
theorem dX1_runsOf_17 : decode cX1_runsOf 17 = .ok (.invokevirtual 48, 3) := by decide +kernel
theorem dX1_runsOf_20 : decode cX1_runsOf 20 = .ok (.iload_n 3, 1) := by decide +kernel
theorem dX1_runsOf_21 : decode cX1_runsOf 21 = .ok (.if_icmp .ne 9, 3) := by decide +kernel
theorem dX1_runsOf_24 : decode cX1_runsOf 24 = .ok (.iinc 2 1, 3) := by decide +kernel
theorem dX1_runsOf_27 : decode cX1_runsOf 27 = .ok (.goto (-18), 3) := by decide +kernel
theorem dX1_runsOf_30 : decode cX1_runsOf 30 = .ok (.iload_n 2, 1) := by decide +kernel
theorem dX1_runsOf_31 : decode cX1_runsOf 31 = .ok (.iconst 1, 1) := by decide +kernel
theorem dX1_runsOf_32 : decode cX1_runsOf 32 = .ok (.iadd, 1) := by decide +kernel
theorem dX1_runsOf_33 : decode cX1_runsOf 33 = .ok (.istore 4, 2) := by decide +kernel
theorem dX1_runsOf_35 : decode cX1_runsOf 35 = .ok (.iload 4, 2) := by decide +kernel
theorem dX1_runsOf_37 : decode cX1_runsOf 37 = .ok (.iconst 4, 1) := by decide +kernel
theorem dX1_runsOf_38 : decode cX1_runsOf 38 = .ok (.if_icmp .ge 35, 3) := by decide +kernel
theorem dX1_runsOf_41 : decode cX1_runsOf 41 = .ok (.aload_n 0, 1) := by decide +kernel
theorem dX1_runsOf_42 : decode cX1_runsOf 42 = .ok (.iload_n 1, 1) := by decide +kernel
theorem dX1_runsOf_43 : decode cX1_runsOf 43 = .ok (.iload 4, 2) := by decide +kernel
theorem dX1_runsOf_45 : decode cX1_runsOf 45 = .ok (.invokevirtual 48, 3) := by decide +kernel
theorem dX1_runsOf_48 : decode cX1_runsOf 48 = .ok (.istore 5, 2) := by decide +kernel
theorem dX1_runsOf_50 : decode cX1_runsOf 50 = .ok (.aload_n 0, 1) := by decide +kernel
theorem dX1_runsOf_51 : decode cX1_runsOf 51 = .ok (.iload_n 1, 1) := by decide +kernel
theorem dX1_runsOf_52 : decode cX1_runsOf 52 = .ok (.iload_n 2, 1) := by decide +kernel
theorem dX1_runsOf_53 : decode cX1_runsOf 53 = .ok (.invokevirtual 48, 3) := by decide +kernel
theorem dX1_runsOf_56 : decode cX1_runsOf 56 = .ok (.istore 6, 2) := by decide +kernel
theorem dX1_runsOf_58 : decode cX1_runsOf 58 = .ok (.iload 5, 2) := by decide +kernel
theorem dX1_runsOf_60 : decode cX1_runsOf 60 = .ok (.iload 6, 2) := by decide +kernel
theorem dX1_runsOf_62 : decode cX1_runsOf 62 = .ok (.if_icmp .eq 5, 3) := by decide +kernel
theorem dX1_runsOf_65 : decode cX1_runsOf 65 = .ok (.iconst 0, 1) := by decide +kernel
theorem dX1_runsOf_66 : decode cX1_runsOf 66 = .ok (.ireturn, 1) := by decide +kernel
theorem dX1_runsOf_67 : decode cX1_runsOf 67 = .ok (.iinc 4 1, 3) := by decide +kernel
theorem dX1_runsOf_70 : decode cX1_runsOf 70 = .ok (.goto (-35), 3) := by decide +kernel
theorem dX1_runsOf_73 : decode cX1_runsOf 73 = .ok (.iload_n 2, 1) := by decide +kernel
theorem dX1_runsOf_74 : decode cX1_runsOf 74 = .ok (.ireturn, 1) := by decide +kernel
end
section
set_option maxRecDepth 100000
abbrev cX1_peek : ByteArray := prog_1_method_3_code
def yX1_peek : MethodName := ⟨RX1, "peek", "(II)I"⟩
theorem dX1_peek_0 : decode cX1_peek 0 = .ok (.aload_n 0, 1) := by decide +kernel
theorem dX1_peek_1 : decode cX1_peek 1 = .ok (.getfield 13, 3) := by decide +kernel
theorem dX1_peek_4 : decode cX1_peek 4 = .ok (.iload_n 1, 1) := by decide +kernel
theorem dX1_peek_5 : decode cX1_peek 5 = .ok (.iaload, 1) := by decide +kernel
theorem dX1_peek_6 : decode cX1_peek 6 = .ok (.istore_n 3, 1) := by decide +kernel
theorem dX1_peek_7 : decode cX1_peek 7 = .ok (.aload_n 0, 1) := by decide +kernel
theorem dX1_peek_8 : decode cX1_peek 8 = .ok (.getfield 7, 3) := by decide +kernel
theorem dX1_peek_11 : decode cX1_peek 11 = .ok (.iload_n 1, 1) := by decide +kernel
theorem dX1_peek_12 : decode cX1_peek 12 = .ok (.iaload, 1) := by decide +kernel
theorem dX1_peek_13 : decode cX1_peek 13 = .ok (.tableswitch 75 1 3 #[27, 38, 64], 27) := by decide +kernel
theorem dX1_peek_40 : decode cX1_peek 40 = .ok (.aload_n 0, 1) := by decide +kernel
theorem dX1_peek_41 : decode cX1_peek 41 = .ok (.getfield 23, 3) := by decide +kernel
theorem dX1_peek_44 : decode cX1_peek 44 = .ok (.iload_n 3, 1) := by decide +kernel
theorem dX1_peek_45 : decode cX1_peek 45 = .ok (.iconst 4, 1) := by decide +kernel
theorem dX1_peek_46 : decode cX1_peek 46 = .ok (.imul, 1) := by decide +kernel
theorem dX1_peek_47 : decode cX1_peek 47 = .ok (.iload_n 2, 1) := by decide +kernel
theorem dX1_peek_48 : decode cX1_peek 48 = .ok (.iadd, 1) := by decide +kernel
theorem dX1_peek_49 : decode cX1_peek 49 = .ok (.iaload, 1) := by decide +kernel
theorem dX1_peek_50 : decode cX1_peek 50 = .ok (.ireturn, 1) := by decide +kernel
theorem dX1_peek_51 : decode cX1_peek 51 = .ok (.iload_n 2, 1) := by decide +kernel
theorem dX1_peek_52 : decode cX1_peek 52 = .ok (.aload_n 0, 1) := by decide +kernel
theorem dX1_peek_53 : decode cX1_peek 53 = .ok (.getfield 29, 3) := by decide +kernel
theorem dX1_peek_56 : decode cX1_peek 56 = .ok (.iload_n 3, 1) := by decide +kernel
theorem dX1_peek_57 : decode cX1_peek 57 = .ok (.iaload, 1) := by decide +kernel
theorem dX1_peek_58 : decode cX1_peek 58 = .ok (.if_icmp .ge 12, 3) := by decide +kernel
theorem dX1_peek_61 : decode cX1_peek 61 = .ok (.aload_n 0, 1) := by decide +kernel
theorem dX1_peek_62 : decode cX1_peek 62 = .ok (.getfield 32, 3) := by decide +kernel
theorem dX1_peek_65 : decode cX1_peek 65 = .ok (.iload_n 3, 1) := by decide +kernel
theorem dX1_peek_66 : decode cX1_peek 66 = .ok (.iaload, 1) := by decide +kernel
theorem dX1_peek_67 : decode cX1_peek 67 = .ok (.goto 9, 3) := by decide +kernel
theorem dX1_peek_70 : decode cX1_peek 70 = .ok (.aload_n 0, 1) := by decide +kernel
theorem dX1_peek_71 : decode cX1_peek 71 = .ok (.getfield 35, 3) := by decide +kernel
theorem dX1_peek_74 : decode cX1_peek 74 = .ok (.iload_n 3, 1) := by decide +kernel
theorem dX1_peek_75 : decode cX1_peek 75 = .ok (.iaload, 1) := by decide +kernel
theorem dX1_peek_76 : decode cX1_peek 76 = .ok (.ireturn, 1) := by decide +kernel
theorem dX1_peek_77 : decode cX1_peek 77 = .ok (.aload_n 0, 1) := by decide +kernel
theorem dX1_peek_78 : decode cX1_peek 78 = .ok (.getfield 41, 3) := by decide +kernel
theorem dX1_peek_81 : decode cX1_peek 81 = .ok (.iload_n 3, 1) := by decide +kernel
theorem dX1_peek_82 : decode cX1_peek 82 = .ok (.iconst 4, 1) := by decide +kernel
theorem dX1_peek_83 : decode cX1_peek 83 = .ok (.imul, 1) := by decide +kernel
theorem dX1_peek_84 : decode cX1_peek 84 = .ok (.iload_n 2, 1) := by decide +kernel
theorem dX1_peek_85 : decode cX1_peek 85 = .ok (.iadd, 1) := by decide +kernel
theorem dX1_peek_86 : decode cX1_peek 86 = .ok (.iaload, 1) := by decide +kernel
theorem dX1_peek_87 : decode cX1_peek 87 = .ok (.ireturn, 1) := by decide +kernel
theorem dX1_peek_88 : decode cX1_peek 88 = .ok (.iconst 0, 1) := by decide +kernel
theorem dX1_peek_89 : decode cX1_peek 89 = .ok (.ireturn, 1) := by decide +kernel
abbrev cX1_squeeze : ByteArray := prog_1_method_6_code
def yX1_squeeze : MethodName := ⟨RX1, "squeeze", "(II)V"⟩
theorem dX1_squeeze_0 : decode cX1_squeeze 0 = .ok (.iconst 0, 1) := by decide +kernel
theorem dX1_squeeze_1 : decode cX1_squeeze 1 = .ok (.istore_n 3, 1) := by decide +kernel
theorem dX1_squeeze_2 : decode cX1_squeeze 2 = .ok (.iload_n 3, 1) := by decide +kernel
theorem dX1_squeeze_3 : decode cX1_squeeze 3 = .ok (.bipush 23, 2) := by decide +kernel
theorem dX1_squeeze_5 : decode cX1_squeeze 5 = .ok (.if_icmp .ge 18, 3) := by decide +kernel
theorem dX1_squeeze_8 : decode cX1_squeeze 8 = .ok (.aload_n 0, 1) := by decide +kernel
theorem dX1_squeeze_9 : decode cX1_squeeze 9 = .ok (.getfield 26, 3) := by decide +kernel
theorem dX1_squeeze_12 : decode cX1_squeeze 12 = .ok (.iload_n 3, 1) := by decide +kernel
theorem dX1_squeeze_13 : decode cX1_squeeze 13 = .ok (.baload, 1) := by decide +kernel
theorem dX1_squeeze_14 : decode cX1_squeeze 14 = .ok (.ifCond .eq 9, 3) := by decide +kernel
theorem dX1_squeeze_17 : decode cX1_squeeze 17 = .ok (.iinc 3 1, 3) := by decide +kernel
theorem dX1_squeeze_20 : decode cX1_squeeze 20 = .ok (.goto (-18), 3) := by decide +kernel
theorem dX1_squeeze_23 : decode cX1_squeeze 23 = .ok (.aload_n 0, 1) := by decide +kernel
theorem dX1_squeeze_24 : decode cX1_squeeze 24 = .ok (.getfield 26, 3) := by decide +kernel
theorem dX1_squeeze_27 : decode cX1_squeeze 27 = .ok (.iload_n 3, 1) := by decide +kernel
theorem dX1_squeeze_28 : decode cX1_squeeze 28 = .ok (.iconst 1, 1) := by decide +kernel
theorem dX1_squeeze_29 : decode cX1_squeeze 29 = .ok (.bastore, 1) := by decide +kernel
theorem dX1_squeeze_30 : decode cX1_squeeze 30 = .ok (.aload_n 0, 1) := by decide +kernel
theorem dX1_squeeze_31 : decode cX1_squeeze 31 = .ok (.getfield 29, 3) := by decide +kernel
theorem dX1_squeeze_34 : decode cX1_squeeze 34 = .ok (.iload_n 3, 1) := by decide +kernel
theorem dX1_squeeze_35 : decode cX1_squeeze 35 = .ok (.iload_n 2, 1) := by decide +kernel
theorem dX1_squeeze_36 : decode cX1_squeeze 36 = .ok (.iastore, 1) := by decide +kernel
theorem dX1_squeeze_37 : decode cX1_squeeze 37 = .ok (.aload_n 0, 1) := by decide +kernel
theorem dX1_squeeze_38 : decode cX1_squeeze 38 = .ok (.getfield 32, 3) := by decide +kernel
theorem dX1_squeeze_41 : decode cX1_squeeze 41 = .ok (.iload_n 3, 1) := by decide +kernel
theorem dX1_squeeze_42 : decode cX1_squeeze 42 = .ok (.aload_n 0, 1) := by decide +kernel
theorem dX1_squeeze_43 : decode cX1_squeeze 43 = .ok (.iload_n 1, 1) := by decide +kernel
theorem dX1_squeeze_44 : decode cX1_squeeze 44 = .ok (.iconst 0, 1) := by decide +kernel
theorem dX1_squeeze_45 : decode cX1_squeeze 45 = .ok (.invokevirtual 48, 3) := by decide +kernel
theorem dX1_squeeze_48 : decode cX1_squeeze 48 = .ok (.iastore, 1) := by decide +kernel
theorem dX1_squeeze_49 : decode cX1_squeeze 49 = .ok (.aload_n 0, 1) := by decide +kernel
theorem dX1_squeeze_50 : decode cX1_squeeze 50 = .ok (.getfield 35, 3) := by decide +kernel
theorem dX1_squeeze_53 : decode cX1_squeeze 53 = .ok (.iload_n 3, 1) := by decide +kernel
theorem dX1_squeeze_54 : decode cX1_squeeze 54 = .ok (.iload_n 2, 1) := by decide +kernel
theorem dX1_squeeze_55 : decode cX1_squeeze 55 = .ok (.iconst 4, 1) := by decide +kernel
theorem dX1_squeeze_56 : decode cX1_squeeze 56 = .ok (.if_icmp .ge 12, 3) := by decide +kernel
theorem dX1_squeeze_59 : decode cX1_squeeze 59 = .ok (.aload_n 0, 1) := by decide +kernel
theorem dX1_squeeze_60 : decode cX1_squeeze 60 = .ok (.iload_n 1, 1) := by decide +kernel
theorem dX1_squeeze_61 : decode cX1_squeeze 61 = .ok (.iload_n 2, 1) := by decide +kernel
theorem dX1_squeeze_62 : decode cX1_squeeze 62 = .ok (.invokevirtual 48, 3) := by decide +kernel
theorem dX1_squeeze_65 : decode cX1_squeeze 65 = .ok (.goto 4, 3) := by decide +kernel
theorem dX1_squeeze_68 : decode cX1_squeeze 68 = .ok (.iconst 0, 1) := by decide +kernel
theorem dX1_squeeze_69 : decode cX1_squeeze 69 = .ok (.iastore, 1) := by decide +kernel
theorem dX1_squeeze_70 : decode cX1_squeeze 70 = .ok (.aload_n 0, 1) := by decide +kernel
theorem dX1_squeeze_71 : decode cX1_squeeze 71 = .ok (.iload_n 1, 1) := by decide +kernel
theorem dX1_squeeze_72 : decode cX1_squeeze 72 = .ok (.invokevirtual 52, 3) := by decide +kernel
theorem dX1_squeeze_75 : decode cX1_squeeze 75 = .ok (.aload_n 0, 1) := by decide +kernel
theorem dX1_squeeze_76 : decode cX1_squeeze 76 = .ok (.getfield 7, 3) := by decide +kernel
theorem dX1_squeeze_79 : decode cX1_squeeze 79 = .ok (.iload_n 1, 1) := by decide +kernel
theorem dX1_squeeze_80 : decode cX1_squeeze 80 = .ok (.iconst 2, 1) := by decide +kernel
theorem dX1_squeeze_81 : decode cX1_squeeze 81 = .ok (.iastore, 1) := by decide +kernel
theorem dX1_squeeze_82 : decode cX1_squeeze 82 = .ok (.aload_n 0, 1) := by decide +kernel
theorem dX1_squeeze_83 : decode cX1_squeeze 83 = .ok (.getfield 13, 3) := by decide +kernel
theorem dX1_squeeze_86 : decode cX1_squeeze 86 = .ok (.iload_n 1, 1) := by decide +kernel
theorem dX1_squeeze_87 : decode cX1_squeeze 87 = .ok (.iload_n 3, 1) := by decide +kernel
theorem dX1_squeeze_88 : decode cX1_squeeze 88 = .ok (.iastore, 1) := by decide +kernel
theorem dX1_squeeze_89 : decode cX1_squeeze 89 = .ok (.return_, 1) := by decide +kernel
abbrev cX1_letGo : ByteArray := prog_1_method_4_code
def yX1_letGo : MethodName := ⟨RX1, "letGo", "(I)V"⟩
theorem dX1_letGo_0 : decode cX1_letGo 0 = .ok (.aload_n 0, 1) := by decide +kernel
theorem dX1_letGo_1 : decode cX1_letGo 1 = .ok (.getfield 13, 3) := by decide +kernel
theorem dX1_letGo_4 : decode cX1_letGo 4 = .ok (.iload_n 1, 1) := by decide +kernel
theorem dX1_letGo_5 : decode cX1_letGo 5 = .ok (.iaload, 1) := by decide +kernel
theorem dX1_letGo_6 : decode cX1_letGo 6 = .ok (.istore_n 2, 1) := by decide +kernel
theorem dX1_letGo_7 : decode cX1_letGo 7 = .ok (.aload_n 0, 1) := by decide +kernel
theorem dX1_letGo_8 : decode cX1_letGo 8 = .ok (.getfield 7, 3) := by decide +kernel
theorem dX1_letGo_11 : decode cX1_letGo 11 = .ok (.iload_n 1, 1) := by decide +kernel
theorem dX1_letGo_12 : decode cX1_letGo 12 = .ok (.iaload, 1) := by decide +kernel
theorem dX1_letGo_13 : decode cX1_letGo 13 = .ok (.iconst 1, 1) := by decide +kernel
theorem dX1_letGo_14 : decode cX1_letGo 14 = .ok (.if_icmp .ne 13, 3) := by decide +kernel
theorem dX1_letGo_17 : decode cX1_letGo 17 = .ok (.aload_n 0, 1) := by decide +kernel
theorem dX1_letGo_18 : decode cX1_letGo 18 = .ok (.getfield 20, 3) := by decide +kernel
theorem dX1_letGo_21 : decode cX1_letGo 21 = .ok (.iload_n 2, 1) := by decide +kernel
theorem dX1_letGo_22 : decode cX1_letGo 22 = .ok (.dup2, 1) := by decide +kernel
theorem dX1_letGo_23 : decode cX1_letGo 23 = .ok (.iaload, 1) := by decide +kernel
theorem dX1_letGo_24 : decode cX1_letGo 24 = .ok (.iconst 1, 1) := by decide +kernel
theorem dX1_letGo_25 : decode cX1_letGo 25 = .ok (.isub, 1) := by decide +kernel
theorem dX1_letGo_26 : decode cX1_letGo 26 = .ok (.iastore, 1) := by decide +kernel
theorem dX1_letGo_27 : decode cX1_letGo 27 = .ok (.aload_n 0, 1) := by decide +kernel
theorem dX1_letGo_28 : decode cX1_letGo 28 = .ok (.getfield 7, 3) := by decide +kernel
theorem dX1_letGo_31 : decode cX1_letGo 31 = .ok (.iload_n 1, 1) := by decide +kernel
theorem dX1_letGo_32 : decode cX1_letGo 32 = .ok (.iaload, 1) := by decide +kernel
theorem dX1_letGo_33 : decode cX1_letGo 33 = .ok (.iconst 2, 1) := by decide +kernel
theorem dX1_letGo_34 : decode cX1_letGo 34 = .ok (.if_icmp .ne 10, 3) := by decide +kernel
theorem dX1_letGo_37 : decode cX1_letGo 37 = .ok (.aload_n 0, 1) := by decide +kernel
theorem dX1_letGo_38 : decode cX1_letGo 38 = .ok (.getfield 26, 3) := by decide +kernel
theorem dX1_letGo_41 : decode cX1_letGo 41 = .ok (.iload_n 2, 1) := by decide +kernel
theorem dX1_letGo_42 : decode cX1_letGo 42 = .ok (.iconst 0, 1) := by decide +kernel
theorem dX1_letGo_43 : decode cX1_letGo 43 = .ok (.bastore, 1) := by decide +kernel
theorem dX1_letGo_44 : decode cX1_letGo 44 = .ok (.aload_n 0, 1) := by decide +kernel
theorem dX1_letGo_45 : decode cX1_letGo 45 = .ok (.getfield 7, 3) := by decide +kernel
theorem dX1_letGo_48 : decode cX1_letGo 48 = .ok (.iload_n 1, 1) := by decide +kernel
theorem dX1_letGo_49 : decode cX1_letGo 49 = .ok (.iaload, 1) := by decide +kernel
theorem dX1_letGo_50 : decode cX1_letGo 50 = .ok (.iconst 3, 1) := by decide +kernel
theorem dX1_letGo_51 : decode cX1_letGo 51 = .ok (.if_icmp .ne 10, 3) := by decide +kernel
theorem dX1_letGo_54 : decode cX1_letGo 54 = .ok (.aload_n 0, 1) := by decide +kernel
theorem dX1_letGo_55 : decode cX1_letGo 55 = .ok (.getfield 38, 3) := by decide +kernel
theorem dX1_letGo_58 : decode cX1_letGo 58 = .ok (.iload_n 2, 1) := by decide +kernel
theorem dX1_letGo_59 : decode cX1_letGo 59 = .ok (.iconst 0, 1) := by decide +kernel
theorem dX1_letGo_60 : decode cX1_letGo 60 = .ok (.bastore, 1) := by decide +kernel
theorem dX1_letGo_61 : decode cX1_letGo 61 = .ok (.aload_n 0, 1) := by decide +kernel
theorem dX1_letGo_62 : decode cX1_letGo 62 = .ok (.getfield 7, 3) := by decide +kernel
theorem dX1_letGo_65 : decode cX1_letGo 65 = .ok (.iload_n 1, 1) := by decide +kernel
theorem dX1_letGo_66 : decode cX1_letGo 66 = .ok (.iconst 0, 1) := by decide +kernel
theorem dX1_letGo_67 : decode cX1_letGo 67 = .ok (.iastore, 1) := by decide +kernel
theorem dX1_letGo_68 : decode cX1_letGo 68 = .ok (.return_, 1) := by decide +kernel
abbrev cX1_putAside : ByteArray := prog_1_method_7_code
def yX1_putAside : MethodName := ⟨RX1, "putAside", "(I)V"⟩
theorem dX1_putAside_0 : decode cX1_putAside 0 = .ok (.iconst 0, 1) := by decide +kernel
theorem dX1_putAside_1 : decode cX1_putAside 1 = .ok (.istore_n 2, 1) := by decide +kernel
theorem dX1_putAside_2 : decode cX1_putAside 2 = .ok (.iload_n 2, 1) := by decide +kernel
theorem dX1_putAside_3 : decode cX1_putAside 3 = .ok (.bipush 23, 2) := by decide +kernel
theorem dX1_putAside_5 : decode cX1_putAside 5 = .ok (.if_icmp .ge 18, 3) := by decide +kernel
theorem dX1_putAside_8 : decode cX1_putAside 8 = .ok (.aload_n 0, 1) := by decide +kernel
theorem dX1_putAside_9 : decode cX1_putAside 9 = .ok (.getfield 38, 3) := by decide +kernel
theorem dX1_putAside_12 : decode cX1_putAside 12 = .ok (.iload_n 2, 1) := by decide +kernel
theorem dX1_putAside_13 : decode cX1_putAside 13 = .ok (.baload, 1) := by decide +kernel
theorem dX1_putAside_14 : decode cX1_putAside 14 = .ok (.ifCond .eq 9, 3) := by decide +kernel
theorem dX1_putAside_17 : decode cX1_putAside 17 = .ok (.iinc 2 1, 3) := by decide +kernel
theorem dX1_putAside_20 : decode cX1_putAside 20 = .ok (.goto (-18), 3) := by decide +kernel
theorem dX1_putAside_23 : decode cX1_putAside 23 = .ok (.aload_n 0, 1) := by decide +kernel
theorem dX1_putAside_24 : decode cX1_putAside 24 = .ok (.getfield 38, 3) := by decide +kernel
theorem dX1_putAside_27 : decode cX1_putAside 27 = .ok (.iload_n 2, 1) := by decide +kernel
theorem dX1_putAside_28 : decode cX1_putAside 28 = .ok (.iconst 1, 1) := by decide +kernel
theorem dX1_putAside_29 : decode cX1_putAside 29 = .ok (.bastore, 1) := by decide +kernel
theorem dX1_putAside_30 : decode cX1_putAside 30 = .ok (.iconst 0, 1) := by decide +kernel
theorem dX1_putAside_31 : decode cX1_putAside 31 = .ok (.istore_n 3, 1) := by decide +kernel
theorem dX1_putAside_32 : decode cX1_putAside 32 = .ok (.iload_n 3, 1) := by decide +kernel
theorem dX1_putAside_33 : decode cX1_putAside 33 = .ok (.iconst 4, 1) := by decide +kernel
theorem dX1_putAside_34 : decode cX1_putAside 34 = .ok (.if_icmp .ge 25, 3) := by decide +kernel
theorem dX1_putAside_37 : decode cX1_putAside 37 = .ok (.aload_n 0, 1) := by decide +kernel
theorem dX1_putAside_38 : decode cX1_putAside 38 = .ok (.getfield 41, 3) := by decide +kernel
theorem dX1_putAside_41 : decode cX1_putAside 41 = .ok (.iload_n 2, 1) := by decide +kernel
theorem dX1_putAside_42 : decode cX1_putAside 42 = .ok (.iconst 4, 1) := by decide +kernel
theorem dX1_putAside_43 : decode cX1_putAside 43 = .ok (.imul, 1) := by decide +kernel
theorem dX1_putAside_44 : decode cX1_putAside 44 = .ok (.iload_n 3, 1) := by decide +kernel
theorem dX1_putAside_45 : decode cX1_putAside 45 = .ok (.iadd, 1) := by decide +kernel
theorem dX1_putAside_46 : decode cX1_putAside 46 = .ok (.aload_n 0, 1) := by decide +kernel
theorem dX1_putAside_47 : decode cX1_putAside 47 = .ok (.iload_n 1, 1) := by decide +kernel
theorem dX1_putAside_48 : decode cX1_putAside 48 = .ok (.iload_n 3, 1) := by decide +kernel
theorem dX1_putAside_49 : decode cX1_putAside 49 = .ok (.invokevirtual 48, 3) := by decide +kernel
theorem dX1_putAside_52 : decode cX1_putAside 52 = .ok (.iastore, 1) := by decide +kernel
theorem dX1_putAside_53 : decode cX1_putAside 53 = .ok (.iinc 3 1, 3) := by decide +kernel
theorem dX1_putAside_56 : decode cX1_putAside 56 = .ok (.goto (-24), 3) := by decide +kernel
theorem dX1_putAside_59 : decode cX1_putAside 59 = .ok (.aload_n 0, 1) := by decide +kernel
theorem dX1_putAside_60 : decode cX1_putAside 60 = .ok (.iload_n 1, 1) := by decide +kernel
theorem dX1_putAside_61 : decode cX1_putAside 61 = .ok (.invokevirtual 52, 3) := by decide +kernel
theorem dX1_putAside_64 : decode cX1_putAside 64 = .ok (.aload_n 0, 1) := by decide +kernel
theorem dX1_putAside_65 : decode cX1_putAside 65 = .ok (.getfield 7, 3) := by decide +kernel
theorem dX1_putAside_68 : decode cX1_putAside 68 = .ok (.iload_n 1, 1) := by decide +kernel
theorem dX1_putAside_69 : decode cX1_putAside 69 = .ok (.iconst 3, 1) := by decide +kernel
theorem dX1_putAside_70 : decode cX1_putAside 70 = .ok (.iastore, 1) := by decide +kernel
theorem dX1_putAside_71 : decode cX1_putAside 71 = .ok (.aload_n 0, 1) := by decide +kernel
theorem dX1_putAside_72 : decode cX1_putAside 72 = .ok (.getfield 13, 3) := by decide +kernel
theorem dX1_putAside_75 : decode cX1_putAside 75 = .ok (.iload_n 1, 1) := by decide +kernel
theorem dX1_putAside_76 : decode cX1_putAside 76 = .ok (.iload_n 2, 1) := by decide +kernel
theorem dX1_putAside_77 : decode cX1_putAside 77 = .ok (.iastore, 1) := by decide +kernel
theorem dX1_putAside_78 : decode cX1_putAside 78 = .ok (.return_, 1) := by decide +kernel
abbrev cX1_fill : ByteArray := prog_1_method_14_code
def yX1_fill : MethodName := ⟨RX1, "fill", "(II)I"⟩
theorem dX1_fill_0 : decode cX1_fill 0 = .ok (.iload_n 1, 1) := by decide +kernel
theorem dX1_fill_1 : decode cX1_fill 1 = .ok (.invokestatic 83, 3) := by decide +kernel
theorem dX1_fill_4 : decode cX1_fill 4 = .ok (.ifCond .eq 5, 3) := by decide +kernel
theorem dX1_fill_7 : decode cX1_fill 7 = .ok (.iconst (-1), 1) := by decide +kernel
theorem dX1_fill_8 : decode cX1_fill 8 = .ok (.ireturn, 1) := by decide +kernel
theorem dX1_fill_9 : decode cX1_fill 9 = .ok (.aload_n 0, 1) := by decide +kernel
theorem dX1_fill_10 : decode cX1_fill 10 = .ok (.iload_n 1, 1) := by decide +kernel
theorem dX1_fill_11 : decode cX1_fill 11 = .ok (.invokevirtual 87, 3) := by decide +kernel
theorem dX1_fill_14 : decode cX1_fill 14 = .ok (.iconst 0, 1) := by decide +kernel
theorem dX1_fill_15 : decode cX1_fill 15 = .ok (.istore_n 3, 1) := by decide +kernel
theorem dX1_fill_16 : decode cX1_fill 16 = .ok (.iload_n 3, 1) := by decide +kernel
theorem dX1_fill_17 : decode cX1_fill 17 = .ok (.iconst 4, 1) := by decide +kernel
theorem dX1_fill_18 : decode cX1_fill 18 = .ok (.if_icmp .ge 25, 3) := by decide +kernel
theorem dX1_fill_21 : decode cX1_fill 21 = .ok (.aload_n 0, 1) := by decide +kernel
theorem dX1_fill_22 : decode cX1_fill 22 = .ok (.getfield 23, 3) := by decide +kernel
theorem dX1_fill_25 : decode cX1_fill 25 = .ok (.aload_n 0, 1) := by decide +kernel
theorem dX1_fill_26 : decode cX1_fill 26 = .ok (.getfield 13, 3) := by decide +kernel
theorem dX1_fill_29 : decode cX1_fill 29 = .ok (.iload_n 1, 1) := by decide +kernel
theorem dX1_fill_30 : decode cX1_fill 30 = .ok (.iaload, 1) := by decide +kernel
theorem dX1_fill_31 : decode cX1_fill 31 = .ok (.iconst 4, 1) := by decide +kernel
theorem dX1_fill_32 : decode cX1_fill 32 = .ok (.imul, 1) := by decide +kernel
theorem dX1_fill_33 : decode cX1_fill 33 = .ok (.iload_n 3, 1) := by decide +kernel
theorem dX1_fill_34 : decode cX1_fill 34 = .ok (.iadd, 1) := by decide +kernel
theorem dX1_fill_35 : decode cX1_fill 35 = .ok (.iload_n 2, 1) := by decide +kernel
theorem dX1_fill_36 : decode cX1_fill 36 = .ok (.iastore, 1) := by decide +kernel
theorem dX1_fill_37 : decode cX1_fill 37 = .ok (.iinc 3 1, 3) := by decide +kernel
theorem dX1_fill_40 : decode cX1_fill 40 = .ok (.goto (-24), 3) := by decide +kernel
theorem dX1_fill_43 : decode cX1_fill 43 = .ok (.iconst 0, 1) := by decide +kernel
theorem dX1_fill_44 : decode cX1_fill 44 = .ok (.ireturn, 1) := by decide +kernel
abbrev cX1_copy : ByteArray := prog_1_method_15_code
def yX1_copy : MethodName := ⟨RX1, "copy", "(II)I"⟩
theorem dX1_copy_0 : decode cX1_copy 0 = .ok (.iload_n 1, 1) := by decide +kernel
theorem dX1_copy_1 : decode cX1_copy 1 = .ok (.invokestatic 83, 3) := by decide +kernel
theorem dX1_copy_4 : decode cX1_copy 4 = .ok (.ifCond .ne 10, 3) := by decide +kernel
theorem dX1_copy_7 : decode cX1_copy 7 = .ok (.iload_n 2, 1) := by decide +kernel
theorem dX1_copy_8 : decode cX1_copy 8 = .ok (.invokestatic 83, 3) := by decide +kernel
theorem dX1_copy_11 : decode cX1_copy 11 = .ok (.ifCond .eq 5, 3) := by decide +kernel
theorem dX1_copy_14 : decode cX1_copy 14 = .ok (.iconst (-1), 1) := by decide +kernel
theorem dX1_copy_15 : decode cX1_copy 15 = .ok (.ireturn, 1) := by decide +kernel
theorem dX1_copy_16 : decode cX1_copy 16 = .ok (.iload_n 1, 1) := by decide +kernel
theorem dX1_copy_17 : decode cX1_copy 17 = .ok (.iload_n 2, 1) := by decide +kernel
theorem dX1_copy_18 : decode cX1_copy 18 = .ok (.if_icmp .ne 5, 3) := by decide +kernel
theorem dX1_copy_21 : decode cX1_copy 21 = .ok (.iconst 0, 1) := by decide +kernel
theorem dX1_copy_22 : decode cX1_copy 22 = .ok (.ireturn, 1) := by decide +kernel
theorem dX1_copy_23 : decode cX1_copy 23 = .ok (.aload_n 0, 1) := by decide +kernel
theorem dX1_copy_24 : decode cX1_copy 24 = .ok (.getfield 7, 3) := by decide +kernel
theorem dX1_copy_27 : decode cX1_copy 27 = .ok (.iload_n 1, 1) := by decide +kernel
theorem dX1_copy_28 : decode cX1_copy 28 = .ok (.iaload, 1) := by decide +kernel
theorem dX1_copy_29 : decode cX1_copy 29 = .ok (.ifCond .ne 10, 3) := by decide +kernel
theorem dX1_copy_32 : decode cX1_copy 32 = .ok (.aload_n 0, 1) := by decide +kernel
theorem dX1_copy_33 : decode cX1_copy 33 = .ok (.iload_n 2, 1) := by decide +kernel
theorem dX1_copy_34 : decode cX1_copy 34 = .ok (.invokevirtual 52, 3) := by decide +kernel
theorem dX1_copy_37 : decode cX1_copy 37 = .ok (.iconst 0, 1) := by decide +kernel
theorem dX1_copy_38 : decode cX1_copy 38 = .ok (.ireturn, 1) := by decide +kernel
theorem dX1_copy_39 : decode cX1_copy 39 = .ok (.aload_n 0, 1) := by decide +kernel
theorem dX1_copy_40 : decode cX1_copy 40 = .ok (.iload_n 1, 1) := by decide +kernel
theorem dX1_copy_41 : decode cX1_copy 41 = .ok (.iload_n 2, 1) := by decide +kernel
theorem dX1_copy_42 : decode cX1_copy 42 = .ok (.invokevirtual 80, 3) := by decide +kernel
theorem dX1_copy_45 : decode cX1_copy 45 = .ok (.aload_n 0, 1) := by decide +kernel
theorem dX1_copy_46 : decode cX1_copy 46 = .ok (.iload_n 2, 1) := by decide +kernel
theorem dX1_copy_47 : decode cX1_copy 47 = .ok (.invokevirtual 52, 3) := by decide +kernel
theorem dX1_copy_50 : decode cX1_copy 50 = .ok (.aload_n 0, 1) := by decide +kernel
theorem dX1_copy_51 : decode cX1_copy 51 = .ok (.getfield 7, 3) := by decide +kernel
theorem dX1_copy_54 : decode cX1_copy 54 = .ok (.iload_n 2, 1) := by decide +kernel
theorem dX1_copy_55 : decode cX1_copy 55 = .ok (.iconst 1, 1) := by decide +kernel
theorem dX1_copy_56 : decode cX1_copy 56 = .ok (.iastore, 1) := by decide +kernel
theorem dX1_copy_57 : decode cX1_copy 57 = .ok (.aload_n 0, 1) := by decide +kernel
theorem dX1_copy_58 : decode cX1_copy 58 = .ok (.getfield 13, 3) := by decide +kernel
theorem dX1_copy_61 : decode cX1_copy 61 = .ok (.iload_n 2, 1) := by decide +kernel
theorem dX1_copy_62 : decode cX1_copy 62 = .ok (.aload_n 0, 1) := by decide +kernel
theorem dX1_copy_63 : decode cX1_copy 63 = .ok (.getfield 13, 3) := by decide +kernel
theorem dX1_copy_66 : decode cX1_copy 66 = .ok (.iload_n 1, 1) := by decide +kernel
theorem dX1_copy_67 : decode cX1_copy 67 = .ok (.iaload, 1) := by decide +kernel
theorem dX1_copy_68 : decode cX1_copy 68 = .ok (.iastore, 1) := by decide +kernel
theorem dX1_copy_69 : decode cX1_copy 69 = .ok (.aload_n 0, 1) := by decide +kernel
theorem dX1_copy_70 : decode cX1_copy 70 = .ok (.getfield 20, 3) := by decide +kernel
theorem dX1_copy_73 : decode cX1_copy 73 = .ok (.aload_n 0, 1) := by decide +kernel
theorem dX1_copy_74 : decode cX1_copy 74 = .ok (.getfield 13, 3) := by decide +kernel
theorem dX1_copy_77 : decode cX1_copy 77 = .ok (.iload_n 1, 1) := by decide +kernel
theorem dX1_copy_78 : decode cX1_copy 78 = .ok (.iaload, 1) := by decide +kernel
theorem dX1_copy_79 : decode cX1_copy 79 = .ok (.dup2, 1) := by decide +kernel
theorem dX1_copy_80 : decode cX1_copy 80 = .ok (.iaload, 1) := by decide +kernel
theorem dX1_copy_81 : decode cX1_copy 81 = .ok (.iconst 1, 1) := by decide +kernel
theorem dX1_copy_82 : decode cX1_copy 82 = .ok (.iadd, 1) := by decide +kernel
theorem dX1_copy_83 : decode cX1_copy 83 = .ok (.iastore, 1) := by decide +kernel
theorem dX1_copy_84 : decode cX1_copy 84 = .ok (.aload_n 0, 1) := by decide +kernel
theorem dX1_copy_85 : decode cX1_copy 85 = .ok (.getfield 16, 3) := by decide +kernel
theorem dX1_copy_88 : decode cX1_copy 88 = .ok (.iload_n 2, 1) := by decide +kernel
theorem dX1_copy_89 : decode cX1_copy 89 = .ok (.iconst 1, 1) := by decide +kernel
theorem dX1_copy_90 : decode cX1_copy 90 = .ok (.bastore, 1) := by decide +kernel
theorem dX1_copy_91 : decode cX1_copy 91 = .ok (.iconst 0, 1) := by decide +kernel
theorem dX1_copy_92 : decode cX1_copy 92 = .ok (.ireturn, 1) := by decide +kernel
abbrev cX1_swap : ByteArray := prog_1_method_16_code
def yX1_swap : MethodName := ⟨RX1, "swap", "(II)I"⟩
theorem dX1_swap_0 : decode cX1_swap 0 = .ok (.iload_n 1, 1) := by decide +kernel
theorem dX1_swap_1 : decode cX1_swap 1 = .ok (.invokestatic 83, 3) := by decide +kernel
theorem dX1_swap_4 : decode cX1_swap 4 = .ok (.ifCond .ne 10, 3) := by decide +kernel
theorem dX1_swap_7 : decode cX1_swap 7 = .ok (.iload_n 2, 1) := by decide +kernel
theorem dX1_swap_8 : decode cX1_swap 8 = .ok (.invokestatic 83, 3) := by decide +kernel
theorem dX1_swap_11 : decode cX1_swap 11 = .ok (.ifCond .eq 5, 3) := by decide +kernel
theorem dX1_swap_14 : decode cX1_swap 14 = .ok (.iconst (-1), 1) := by decide +kernel
theorem dX1_swap_15 : decode cX1_swap 15 = .ok (.ireturn, 1) := by decide +kernel
theorem dX1_swap_16 : decode cX1_swap 16 = .ok (.aload_n 0, 1) := by decide +kernel
theorem dX1_swap_17 : decode cX1_swap 17 = .ok (.getfield 7, 3) := by decide +kernel
theorem dX1_swap_20 : decode cX1_swap 20 = .ok (.iload_n 1, 1) := by decide +kernel
theorem dX1_swap_21 : decode cX1_swap 21 = .ok (.iaload, 1) := by decide +kernel
theorem dX1_swap_22 : decode cX1_swap 22 = .ok (.istore_n 3, 1) := by decide +kernel
theorem dX1_swap_23 : decode cX1_swap 23 = .ok (.aload_n 0, 1) := by decide +kernel
theorem dX1_swap_24 : decode cX1_swap 24 = .ok (.getfield 13, 3) := by decide +kernel
theorem dX1_swap_27 : decode cX1_swap 27 = .ok (.iload_n 1, 1) := by decide +kernel
theorem dX1_swap_28 : decode cX1_swap 28 = .ok (.iaload, 1) := by decide +kernel
theorem dX1_swap_29 : decode cX1_swap 29 = .ok (.istore 4, 2) := by decide +kernel
theorem dX1_swap_31 : decode cX1_swap 31 = .ok (.aload_n 0, 1) := by decide +kernel
theorem dX1_swap_32 : decode cX1_swap 32 = .ok (.getfield 7, 3) := by decide +kernel
theorem dX1_swap_35 : decode cX1_swap 35 = .ok (.iload_n 1, 1) := by decide +kernel
theorem dX1_swap_36 : decode cX1_swap 36 = .ok (.aload_n 0, 1) := by decide +kernel
theorem dX1_swap_37 : decode cX1_swap 37 = .ok (.getfield 7, 3) := by decide +kernel
theorem dX1_swap_40 : decode cX1_swap 40 = .ok (.iload_n 2, 1) := by decide +kernel
theorem dX1_swap_41 : decode cX1_swap 41 = .ok (.iaload, 1) := by decide +kernel
theorem dX1_swap_42 : decode cX1_swap 42 = .ok (.iastore, 1) := by decide +kernel
theorem dX1_swap_43 : decode cX1_swap 43 = .ok (.aload_n 0, 1) := by decide +kernel
theorem dX1_swap_44 : decode cX1_swap 44 = .ok (.getfield 13, 3) := by decide +kernel
theorem dX1_swap_47 : decode cX1_swap 47 = .ok (.iload_n 1, 1) := by decide +kernel
theorem dX1_swap_48 : decode cX1_swap 48 = .ok (.aload_n 0, 1) := by decide +kernel
theorem dX1_swap_49 : decode cX1_swap 49 = .ok (.getfield 13, 3) := by decide +kernel
theorem dX1_swap_52 : decode cX1_swap 52 = .ok (.iload_n 2, 1) := by decide +kernel
theorem dX1_swap_53 : decode cX1_swap 53 = .ok (.iaload, 1) := by decide +kernel
theorem dX1_swap_54 : decode cX1_swap 54 = .ok (.iastore, 1) := by decide +kernel
theorem dX1_swap_55 : decode cX1_swap 55 = .ok (.aload_n 0, 1) := by decide +kernel
theorem dX1_swap_56 : decode cX1_swap 56 = .ok (.getfield 7, 3) := by decide +kernel
theorem dX1_swap_59 : decode cX1_swap 59 = .ok (.iload_n 2, 1) := by decide +kernel
theorem dX1_swap_60 : decode cX1_swap 60 = .ok (.iload_n 3, 1) := by decide +kernel
theorem dX1_swap_61 : decode cX1_swap 61 = .ok (.iastore, 1) := by decide +kernel
theorem dX1_swap_62 : decode cX1_swap 62 = .ok (.aload_n 0, 1) := by decide +kernel
theorem dX1_swap_63 : decode cX1_swap 63 = .ok (.getfield 13, 3) := by decide +kernel
theorem dX1_swap_66 : decode cX1_swap 66 = .ok (.iload_n 2, 1) := by decide +kernel
theorem dX1_swap_67 : decode cX1_swap 67 = .ok (.iload 4, 2) := by decide +kernel
theorem dX1_swap_69 : decode cX1_swap 69 = .ok (.iastore, 1) := by decide +kernel
theorem dX1_swap_70 : decode cX1_swap 70 = .ok (.iconst 0, 1) := by decide +kernel
theorem dX1_swap_71 : decode cX1_swap 71 = .ok (.ireturn, 1) := by decide +kernel
abbrev cX1_release : ByteArray := prog_1_method_17_code
def yX1_release : MethodName := ⟨RX1, "release", "(I)I"⟩
theorem dX1_release_0 : decode cX1_release 0 = .ok (.iload_n 1, 1) := by decide +kernel
theorem dX1_release_1 : decode cX1_release 1 = .ok (.invokestatic 83, 3) := by decide +kernel
theorem dX1_release_4 : decode cX1_release 4 = .ok (.ifCond .eq 5, 3) := by decide +kernel
theorem dX1_release_7 : decode cX1_release 7 = .ok (.iconst (-1), 1) := by decide +kernel
theorem dX1_release_8 : decode cX1_release 8 = .ok (.ireturn, 1) := by decide +kernel
theorem dX1_release_9 : decode cX1_release 9 = .ok (.aload_n 0, 1) := by decide +kernel
theorem dX1_release_10 : decode cX1_release 10 = .ok (.getfield 7, 3) := by decide +kernel
theorem dX1_release_13 : decode cX1_release 13 = .ok (.iload_n 1, 1) := by decide +kernel
theorem dX1_release_14 : decode cX1_release 14 = .ok (.iaload, 1) := by decide +kernel
theorem dX1_release_15 : decode cX1_release 15 = .ok (.ifCond .ne 6, 3) := by decide +kernel
theorem dX1_release_18 : decode cX1_release 18 = .ok (.bipush (-3), 2) := by decide +kernel
theorem dX1_release_20 : decode cX1_release 20 = .ok (.ireturn, 1) := by decide +kernel
theorem dX1_release_21 : decode cX1_release 21 = .ok (.aload_n 0, 1) := by decide +kernel
theorem dX1_release_22 : decode cX1_release 22 = .ok (.iload_n 1, 1) := by decide +kernel
theorem dX1_release_23 : decode cX1_release 23 = .ok (.invokevirtual 52, 3) := by decide +kernel
theorem dX1_release_26 : decode cX1_release 26 = .ok (.iconst 0, 1) := by decide +kernel
theorem dX1_release_27 : decode cX1_release 27 = .ok (.ireturn, 1) := by decide +kernel
abbrev cX1_scan : ByteArray := prog_1_method_22_code
def yX1_scan : MethodName := ⟨RX1, "scan", "(I)V"⟩
theorem dX1_scan_0 : decode cX1_scan 0 = .ok (.iconst 0, 1) := by decide +kernel
theorem dX1_scan_1 : decode cX1_scan 1 = .ok (.istore_n 2, 1) := by decide +kernel
theorem dX1_scan_2 : decode cX1_scan 2 = .ok (.iload_n 2, 1) := by decide +kernel
theorem dX1_scan_3 : decode cX1_scan 3 = .ok (.iload_n 1, 1) := by decide +kernel
theorem dX1_scan_4 : decode cX1_scan 4 = .ok (.if_icmp .ge 81, 3) := by decide +kernel
theorem dX1_scan_7 : decode cX1_scan 7 = .ok (.iload_n 2, 1) := by decide +kernel
theorem dX1_scan_8 : decode cX1_scan 8 = .ok (.bipush 24, 2) := by decide +kernel
theorem dX1_scan_10 : decode cX1_scan 10 = .ok (.if_icmp .ge 75, 3) := by decide +kernel
theorem dX1_scan_13 : decode cX1_scan 13 = .ok (.aload_n 0, 1) := by decide +kernel
theorem dX1_scan_14 : decode cX1_scan 14 = .ok (.getfield 101, 3) := by decide +kernel
theorem dX1_scan_17 : decode cX1_scan 17 = .ok (.istore_n 3, 1) := by decide +kernel
theorem dX1_scan_18 : decode cX1_scan 18 = .ok (.aload_n 0, 1) := by decide +kernel
theorem dX1_scan_19 : decode cX1_scan 19 = .ok (.aload_n 0, 1) := by decide +kernel
theorem dX1_scan_20 : decode cX1_scan 20 = .ok (.getfield 101, 3) := by decide +kernel
theorem dX1_scan_23 : decode cX1_scan 23 = .ok (.iconst 1, 1) := by decide +kernel
theorem dX1_scan_24 : decode cX1_scan 24 = .ok (.iadd, 1) := by decide +kernel
theorem dX1_scan_25 : decode cX1_scan 25 = .ok (.bipush 24, 2) := by decide +kernel
theorem dX1_scan_27 : decode cX1_scan 27 = .ok (.if_icmp .ge 12, 3) := by decide +kernel
theorem dX1_scan_30 : decode cX1_scan 30 = .ok (.aload_n 0, 1) := by decide +kernel
theorem dX1_scan_31 : decode cX1_scan 31 = .ok (.getfield 101, 3) := by decide +kernel
theorem dX1_scan_34 : decode cX1_scan 34 = .ok (.iconst 1, 1) := by decide +kernel
theorem dX1_scan_35 : decode cX1_scan 35 = .ok (.iadd, 1) := by decide +kernel
theorem dX1_scan_36 : decode cX1_scan 36 = .ok (.goto 4, 3) := by decide +kernel
theorem dX1_scan_39 : decode cX1_scan 39 = .ok (.iconst 0, 1) := by decide +kernel
theorem dX1_scan_40 : decode cX1_scan 40 = .ok (.putfield 101, 3) := by decide +kernel
theorem dX1_scan_43 : decode cX1_scan 43 = .ok (.aload_n 0, 1) := by decide +kernel
theorem dX1_scan_44 : decode cX1_scan 44 = .ok (.getfield 7, 3) := by decide +kernel
theorem dX1_scan_47 : decode cX1_scan 47 = .ok (.iload_n 3, 1) := by decide +kernel
theorem dX1_scan_48 : decode cX1_scan 48 = .ok (.iaload, 1) := by decide +kernel
theorem dX1_scan_49 : decode cX1_scan 49 = .ok (.iconst 1, 1) := by decide +kernel
theorem dX1_scan_50 : decode cX1_scan 50 = .ok (.if_icmp .ne 29, 3) := by decide +kernel
theorem dX1_scan_53 : decode cX1_scan 53 = .ok (.aload_n 0, 1) := by decide +kernel
theorem dX1_scan_54 : decode cX1_scan 54 = .ok (.iload_n 3, 1) := by decide +kernel
theorem dX1_scan_55 : decode cX1_scan 55 = .ok (.invokevirtual 104, 3) := by decide +kernel
theorem dX1_scan_58 : decode cX1_scan 58 = .ok (.aload_n 0, 1) := by decide +kernel
theorem dX1_scan_59 : decode cX1_scan 59 = .ok (.getfield 16, 3) := by decide +kernel
theorem dX1_scan_62 : decode cX1_scan 62 = .ok (.iload_n 3, 1) := by decide +kernel
theorem dX1_scan_63 : decode cX1_scan 63 = .ok (.baload, 1) := by decide +kernel
theorem dX1_scan_64 : decode cX1_scan 64 = .ok (.ifCond .ne 8, 3) := by decide +kernel
theorem dX1_scan_67 : decode cX1_scan 67 = .ok (.aload_n 0, 1) := by decide +kernel
theorem dX1_scan_68 : decode cX1_scan 68 = .ok (.iload_n 3, 1) := by decide +kernel
theorem dX1_scan_69 : decode cX1_scan 69 = .ok (.invokevirtual 74, 3) := by decide +kernel
theorem dX1_scan_72 : decode cX1_scan 72 = .ok (.aload_n 0, 1) := by decide +kernel
theorem dX1_scan_73 : decode cX1_scan 73 = .ok (.getfield 16, 3) := by decide +kernel
theorem dX1_scan_76 : decode cX1_scan 76 = .ok (.iload_n 3, 1) := by decide +kernel
theorem dX1_scan_77 : decode cX1_scan 77 = .ok (.iconst 0, 1) := by decide +kernel
theorem dX1_scan_78 : decode cX1_scan 78 = .ok (.bastore, 1) := by decide +kernel
theorem dX1_scan_79 : decode cX1_scan 79 = .ok (.iinc 2 1, 3) := by decide +kernel
theorem dX1_scan_82 : decode cX1_scan 82 = .ok (.goto (-80), 3) := by decide +kernel
theorem dX1_scan_85 : decode cX1_scan 85 = .ok (.return_, 1) := by decide +kernel
end
section
set_option maxRecDepth 100000
abbrev cX1_merge : ByteArray := prog_1_method_21_code
def yX1_merge : MethodName := ⟨RX1, "merge", "(I)V"⟩
theorem dX1_merge_0 : decode cX1_merge 0 = .ok (.aload_n 0, 1) := by decide +kernel
theorem dX1_merge_1 : decode cX1_merge 1 = .ok (.getfield 13, 3) := by decide +kernel
theorem dX1_merge_4 : decode cX1_merge 4 = .ok (.iload_n 1, 1) := by decide +kernel
theorem dX1_merge_5 : decode cX1_merge 5 = .ok (.iaload, 1) := by decide +kernel
theorem dX1_merge_6 : decode cX1_merge 6 = .ok (.istore_n 2, 1) := by decide +kernel
theorem dX1_merge_7 : decode cX1_merge 7 = .ok (.aload_n 0, 1) := by decide +kernel
theorem dX1_merge_8 : decode cX1_merge 8 = .ok (.iload_n 2, 1) := by decide +kernel
theorem dX1_merge_9 : decode cX1_merge 9 = .ok (.invokevirtual 94, 3) := by decide +kernel
theorem dX1_merge_12 : decode cX1_merge 12 = .ok (.istore_n 3, 1) := by decide +kernel
theorem dX1_merge_13 : decode cX1_merge 13 = .ok (.iconst 0, 1) := by decide +kernel
theorem dX1_merge_14 : decode cX1_merge 14 = .ok (.istore 4, 2) := by decide +kernel
theorem dX1_merge_16 : decode cX1_merge 16 = .ok (.iload 4, 2) := by decide +kernel
theorem dX1_merge_18 : decode cX1_merge 18 = .ok (.aload_n 0, 1) := by decide +kernel
theorem dX1_merge_19 : decode cX1_merge 19 = .ok (.getfield 44, 3) := by decide +kernel
theorem dX1_merge_22 : decode cX1_merge 22 = .ok (.if_icmp .ge 98, 3) := by decide +kernel
theorem dX1_merge_25 : decode cX1_merge 25 = .ok (.iload 4, 2) := by decide +kernel
theorem dX1_merge_27 : decode cX1_merge 27 = .ok (.iload_n 2, 1) := by decide +kernel
theorem dX1_merge_28 : decode cX1_merge 28 = .ok (.if_icmp .eq 22, 3) := by decide +kernel
theorem dX1_merge_31 : decode cX1_merge 31 = .ok (.aload_n 0, 1) := by decide +kernel
theorem dX1_merge_32 : decode cX1_merge 32 = .ok (.getfield 20, 3) := by decide +kernel
theorem dX1_merge_35 : decode cX1_merge 35 = .ok (.iload 4, 2) := by decide +kernel
theorem dX1_merge_37 : decode cX1_merge 37 = .ok (.iaload, 1) := by decide +kernel
theorem dX1_merge_38 : decode cX1_merge 38 = .ok (.ifCond .le 12, 3) := by decide +kernel
theorem dX1_merge_41 : decode cX1_merge 41 = .ok (.aload_n 0, 1) := by decide +kernel
theorem dX1_merge_42 : decode cX1_merge 42 = .ok (.iload 4, 2) := by decide +kernel
theorem dX1_merge_44 : decode cX1_merge 44 = .ok (.invokevirtual 94, 3) := by decide +kernel
theorem dX1_merge_47 : decode cX1_merge 47 = .ok (.goto 6, 3) := by decide +kernel
theorem dX1_merge_50 : decode cX1_merge 50 = .ok (.iload_n 3, 1) := by decide +kernel
theorem dX1_merge_51 : decode cX1_merge 51 = .ok (.iconst (-1), 1) := by decide +kernel
theorem dX1_merge_52 : decode cX1_merge 52 = .ok (.ixor, 1) := by decide +kernel
theorem dX1_merge_53 : decode cX1_merge 53 = .ok (.istore 5, 2) := by decide +kernel
theorem dX1_merge_55 : decode cX1_merge 55 = .ok (.iload 5, 2) := by decide +kernel
theorem dX1_merge_57 : decode cX1_merge 57 = .ok (.iload_n 3, 1) := by decide +kernel
theorem dX1_merge_58 : decode cX1_merge 58 = .ok (.if_icmp .ne 56, 3) := by decide +kernel
theorem dX1_merge_61 : decode cX1_merge 61 = .ok (.aload_n 0, 1) := by decide +kernel
theorem dX1_merge_62 : decode cX1_merge 62 = .ok (.getfield 13, 3) := by decide +kernel
theorem dX1_merge_65 : decode cX1_merge 65 = .ok (.iload_n 1, 1) := by decide +kernel
theorem dX1_merge_66 : decode cX1_merge 66 = .ok (.iaload, 1) := by decide +kernel
theorem dX1_merge_67 : decode cX1_merge 67 = .ok (.iload_n 2, 1) := by decide +kernel
theorem dX1_merge_68 : decode cX1_merge 68 = .ok (.if_icmp .ne 46, 3) := by decide +kernel
theorem dX1_merge_71 : decode cX1_merge 71 = .ok (.aload_n 0, 1) := by decide +kernel
theorem dX1_merge_72 : decode cX1_merge 72 = .ok (.iload_n 2, 1) := by decide +kernel
theorem dX1_merge_73 : decode cX1_merge 73 = .ok (.iload 4, 2) := by decide +kernel
theorem dX1_merge_75 : decode cX1_merge 75 = .ok (.invokevirtual 97, 3) := by decide +kernel
theorem dX1_merge_78 : decode cX1_merge 78 = .ok (.istore 6, 2) := by decide +kernel
theorem dX1_merge_80 : decode cX1_merge 80 = .ok (.iload 6, 2) := by decide +kernel
theorem dX1_merge_82 : decode cX1_merge 82 = .ok (.ifCond .eq 32, 3) := by decide +kernel
theorem dX1_merge_85 : decode cX1_merge 85 = .ok (.aload_n 0, 1) := by decide +kernel
theorem dX1_merge_86 : decode cX1_merge 86 = .ok (.getfield 20, 3) := by decide +kernel
theorem dX1_merge_89 : decode cX1_merge 89 = .ok (.iload_n 2, 1) := by decide +kernel
theorem dX1_merge_90 : decode cX1_merge 90 = .ok (.dup2, 1) := by decide +kernel
theorem dX1_merge_91 : decode cX1_merge 91 = .ok (.iaload, 1) := by decide +kernel
theorem dX1_merge_92 : decode cX1_merge 92 = .ok (.iconst 1, 1) := by decide +kernel
theorem dX1_merge_93 : decode cX1_merge 93 = .ok (.isub, 1) := by decide +kernel
theorem dX1_merge_94 : decode cX1_merge 94 = .ok (.iastore, 1) := by decide +kernel
theorem dX1_merge_95 : decode cX1_merge 95 = .ok (.aload_n 0, 1) := by decide +kernel
theorem dX1_merge_96 : decode cX1_merge 96 = .ok (.getfield 20, 3) := by decide +kernel
theorem dX1_merge_99 : decode cX1_merge 99 = .ok (.iload 4, 2) := by decide +kernel
theorem dX1_merge_101 : decode cX1_merge 101 = .ok (.dup2, 1) := by decide +kernel
theorem dX1_merge_102 : decode cX1_merge 102 = .ok (.iaload, 1) := by decide +kernel
theorem dX1_merge_103 : decode cX1_merge 103 = .ok (.iconst 1, 1) := by decide +kernel
theorem dX1_merge_104 : decode cX1_merge 104 = .ok (.iadd, 1) := by decide +kernel
theorem dX1_merge_105 : decode cX1_merge 105 = .ok (.iastore, 1) := by decide +kernel
theorem dX1_merge_106 : decode cX1_merge 106 = .ok (.aload_n 0, 1) := by decide +kernel
theorem dX1_merge_107 : decode cX1_merge 107 = .ok (.getfield 13, 3) := by decide +kernel
theorem dX1_merge_110 : decode cX1_merge 110 = .ok (.iload_n 1, 1) := by decide +kernel
theorem dX1_merge_111 : decode cX1_merge 111 = .ok (.iload 4, 2) := by decide +kernel
theorem dX1_merge_113 : decode cX1_merge 113 = .ok (.iastore, 1) := by decide +kernel
theorem dX1_merge_114 : decode cX1_merge 114 = .ok (.iinc 4 1, 3) := by decide +kernel
theorem dX1_merge_117 : decode cX1_merge 117 = .ok (.goto (-101), 3) := by decide +kernel
theorem dX1_merge_120 : decode cX1_merge 120 = .ok (.return_, 1) := by decide +kernel
abbrev cX1_hashOf : ByteArray := prog_1_method_19_code
def yX1_hashOf : MethodName := ⟨RX1, "hashOf", "(I)I"⟩
theorem dX1_hashOf_0 : decode cX1_hashOf 0 = .ok (.bipush 7, 2) := by decide +kernel
theorem dX1_hashOf_2 : decode cX1_hashOf 2 = .ok (.istore_n 2, 1) := by decide +kernel
theorem dX1_hashOf_3 : decode cX1_hashOf 3 = .ok (.iconst 0, 1) := by decide +kernel
theorem dX1_hashOf_4 : decode cX1_hashOf 4 = .ok (.istore_n 3, 1) := by decide +kernel
theorem dX1_hashOf_5 : decode cX1_hashOf 5 = .ok (.iload_n 3, 1) := by decide +kernel
theorem dX1_hashOf_6 : decode cX1_hashOf 6 = .ok (.iconst 4, 1) := by decide +kernel
theorem dX1_hashOf_7 : decode cX1_hashOf 7 = .ok (.if_icmp .ge 24, 3) := by decide +kernel
theorem dX1_hashOf_10 : decode cX1_hashOf 10 = .ok (.iload_n 2, 1) := by decide +kernel
theorem dX1_hashOf_11 : decode cX1_hashOf 11 = .ok (.aload_n 0, 1) := by decide +kernel
theorem dX1_hashOf_12 : decode cX1_hashOf 12 = .ok (.getfield 23, 3) := by decide +kernel
theorem dX1_hashOf_15 : decode cX1_hashOf 15 = .ok (.iload_n 1, 1) := by decide +kernel
theorem dX1_hashOf_16 : decode cX1_hashOf 16 = .ok (.iconst 4, 1) := by decide +kernel
theorem dX1_hashOf_17 : decode cX1_hashOf 17 = .ok (.imul, 1) := by decide +kernel
theorem dX1_hashOf_18 : decode cX1_hashOf 18 = .ok (.iload_n 3, 1) := by decide +kernel
theorem dX1_hashOf_19 : decode cX1_hashOf 19 = .ok (.iadd, 1) := by decide +kernel
theorem dX1_hashOf_20 : decode cX1_hashOf 20 = .ok (.iaload, 1) := by decide +kernel
theorem dX1_hashOf_21 : decode cX1_hashOf 21 = .ok (.invokestatic 91, 3) := by decide +kernel
theorem dX1_hashOf_24 : decode cX1_hashOf 24 = .ok (.istore_n 2, 1) := by decide +kernel
theorem dX1_hashOf_25 : decode cX1_hashOf 25 = .ok (.iinc 3 1, 3) := by decide +kernel
theorem dX1_hashOf_28 : decode cX1_hashOf 28 = .ok (.goto (-23), 3) := by decide +kernel
theorem dX1_hashOf_31 : decode cX1_hashOf 31 = .ok (.iload_n 2, 1) := by decide +kernel
theorem dX1_hashOf_32 : decode cX1_hashOf 32 = .ok (.ireturn, 1) := by decide +kernel
abbrev cX1_mixed : ByteArray := prog_1_method_18_code
def yX1_mixed : MethodName := ⟨RX1, "mixed", "(II)I"⟩
theorem dX1_mixed_0 : decode cX1_mixed 0 = .ok (.iload_n 0, 1) := by decide +kernel
theorem dX1_mixed_1 : decode cX1_mixed 1 = .ok (.iload_n 1, 1) := by decide +kernel
theorem dX1_mixed_2 : decode cX1_mixed 2 = .ok (.ixor, 1) := by decide +kernel
theorem dX1_mixed_3 : decode cX1_mixed 3 = .ok (.ldc 90, 2) := by decide +kernel
theorem dX1_mixed_5 : decode cX1_mixed 5 = .ok (.imul, 1) := by decide +kernel
theorem dX1_mixed_6 : decode cX1_mixed 6 = .ok (.ireturn, 1) := by decide +kernel
abbrev cX1_equalFrames : ByteArray := prog_1_method_20_code
def yX1_equalFrames : MethodName := ⟨RX1, "equalFrames", "(II)Z"⟩
theorem dX1_equalFrames_0 : decode cX1_equalFrames 0 = .ok (.iconst 0, 1) := by decide +kernel
theorem dX1_equalFrames_1 : decode cX1_equalFrames 1 = .ok (.istore_n 3, 1) := by decide +kernel
theorem dX1_equalFrames_2 : decode cX1_equalFrames 2 = .ok (.iload_n 3, 1) := by decide +kernel
theorem dX1_equalFrames_3 : decode cX1_equalFrames 3 = .ok (.iconst 4, 1) := by decide +kernel
theorem dX1_equalFrames_4 : decode cX1_equalFrames 4 = .ok (.if_icmp .ge 34, 3) := by decide +kernel
theorem dX1_equalFrames_7 : decode cX1_equalFrames 7 = .ok (.aload_n 0, 1) := by decide +kernel
theorem dX1_equalFrames_8 : decode cX1_equalFrames 8 = .ok (.getfield 23, 3) := by decide +kernel
theorem dX1_equalFrames_11 : decode cX1_equalFrames 11 = .ok (.iload_n 1, 1) := by decide +kernel
theorem dX1_equalFrames_12 : decode cX1_equalFrames 12 = .ok (.iconst 4, 1) := by decide +kernel
theorem dX1_equalFrames_13 : decode cX1_equalFrames 13 = .ok (.imul, 1) := by decide +kernel
theorem dX1_equalFrames_14 : decode cX1_equalFrames 14 = .ok (.iload_n 3, 1) := by decide +kernel
theorem dX1_equalFrames_15 : decode cX1_equalFrames 15 = .ok (.iadd, 1) := by decide +kernel
theorem dX1_equalFrames_16 : decode cX1_equalFrames 16 = .ok (.iaload, 1) := by decide +kernel
theorem dX1_equalFrames_17 : decode cX1_equalFrames 17 = .ok (.aload_n 0, 1) := by decide +kernel
theorem dX1_equalFrames_18 : decode cX1_equalFrames 18 = .ok (.getfield 23, 3) := by decide +kernel
theorem dX1_equalFrames_21 : decode cX1_equalFrames 21 = .ok (.iload_n 2, 1) := by decide +kernel
theorem dX1_equalFrames_22 : decode cX1_equalFrames 22 = .ok (.iconst 4, 1) := by decide +kernel
theorem dX1_equalFrames_23 : decode cX1_equalFrames 23 = .ok (.imul, 1) := by decide +kernel
theorem dX1_equalFrames_24 : decode cX1_equalFrames 24 = .ok (.iload_n 3, 1) := by decide +kernel
theorem dX1_equalFrames_25 : decode cX1_equalFrames 25 = .ok (.iadd, 1) := by decide +kernel
theorem dX1_equalFrames_26 : decode cX1_equalFrames 26 = .ok (.iaload, 1) := by decide +kernel
theorem dX1_equalFrames_27 : decode cX1_equalFrames 27 = .ok (.if_icmp .eq 5, 3) := by decide +kernel
theorem dX1_equalFrames_30 : decode cX1_equalFrames 30 = .ok (.iconst 0, 1) := by decide +kernel
theorem dX1_equalFrames_31 : decode cX1_equalFrames 31 = .ok (.ireturn, 1) := by decide +kernel
theorem dX1_equalFrames_32 : decode cX1_equalFrames 32 = .ok (.iinc 3 1, 3) := by decide +kernel
theorem dX1_equalFrames_35 : decode cX1_equalFrames 35 = .ok (.goto (-33), 3) := by decide +kernel
theorem dX1_equalFrames_38 : decode cX1_equalFrames 38 = .ok (.iconst 1, 1) := by decide +kernel
theorem dX1_equalFrames_39 : decode cX1_equalFrames 39 = .ok (.ireturn, 1) := by decide +kernel
abbrev cX1_read : ByteArray := prog_1_method_23_code
def yX1_read : MethodName := ⟨RX1, "read", "(II)I"⟩
theorem dX1_read_0 : decode cX1_read 0 = .ok (.iload_n 1, 1) := by decide +kernel
theorem dX1_read_1 : decode cX1_read 1 = .ok (.invokestatic 83, 3) := by decide +kernel
theorem dX1_read_4 : decode cX1_read 4 = .ok (.ifCond .eq 5, 3) := by decide +kernel
theorem dX1_read_7 : decode cX1_read 7 = .ok (.iconst (-1), 1) := by decide +kernel
theorem dX1_read_8 : decode cX1_read 8 = .ok (.ireturn, 1) := by decide +kernel
theorem dX1_read_9 : decode cX1_read 9 = .ok (.iload_n 2, 1) := by decide +kernel
theorem dX1_read_10 : decode cX1_read 10 = .ok (.ifCond .lt 8, 3) := by decide +kernel
theorem dX1_read_13 : decode cX1_read 13 = .ok (.iload_n 2, 1) := by decide +kernel
theorem dX1_read_14 : decode cX1_read 14 = .ok (.iconst 4, 1) := by decide +kernel
theorem dX1_read_15 : decode cX1_read 15 = .ok (.if_icmp .lt 6, 3) := by decide +kernel
theorem dX1_read_18 : decode cX1_read 18 = .ok (.bipush (-2), 2) := by decide +kernel
theorem dX1_read_20 : decode cX1_read 20 = .ok (.ireturn, 1) := by decide +kernel
theorem dX1_read_21 : decode cX1_read 21 = .ok (.aload_n 0, 1) := by decide +kernel
theorem dX1_read_22 : decode cX1_read 22 = .ok (.getfield 7, 3) := by decide +kernel
theorem dX1_read_25 : decode cX1_read 25 = .ok (.iload_n 1, 1) := by decide +kernel
theorem dX1_read_26 : decode cX1_read 26 = .ok (.iaload, 1) := by decide +kernel
theorem dX1_read_27 : decode cX1_read 27 = .ok (.ifCond .ne 5, 3) := by decide +kernel
theorem dX1_read_30 : decode cX1_read 30 = .ok (.iconst 0, 1) := by decide +kernel
theorem dX1_read_31 : decode cX1_read 31 = .ok (.ireturn, 1) := by decide +kernel
theorem dX1_read_32 : decode cX1_read 32 = .ok (.aload_n 0, 1) := by decide +kernel
theorem dX1_read_33 : decode cX1_read 33 = .ok (.iload_n 1, 1) := by decide +kernel
theorem dX1_read_34 : decode cX1_read 34 = .ok (.iload_n 1, 1) := by decide +kernel
theorem dX1_read_35 : decode cX1_read 35 = .ok (.invokevirtual 80, 3) := by decide +kernel
theorem dX1_read_38 : decode cX1_read 38 = .ok (.aload_n 0, 1) := by decide +kernel
theorem dX1_read_39 : decode cX1_read 39 = .ok (.getfield 23, 3) := by decide +kernel
theorem dX1_read_42 : decode cX1_read 42 = .ok (.aload_n 0, 1) := by decide +kernel
theorem dX1_read_43 : decode cX1_read 43 = .ok (.getfield 13, 3) := by decide +kernel
theorem dX1_read_46 : decode cX1_read 46 = .ok (.iload_n 1, 1) := by decide +kernel
theorem dX1_read_47 : decode cX1_read 47 = .ok (.iaload, 1) := by decide +kernel
theorem dX1_read_48 : decode cX1_read 48 = .ok (.iconst 4, 1) := by decide +kernel
theorem dX1_read_49 : decode cX1_read 49 = .ok (.imul, 1) := by decide +kernel
theorem dX1_read_50 : decode cX1_read 50 = .ok (.iload_n 2, 1) := by decide +kernel
theorem dX1_read_51 : decode cX1_read 51 = .ok (.iadd, 1) := by decide +kernel
theorem dX1_read_52 : decode cX1_read 52 = .ok (.iaload, 1) := by decide +kernel
theorem dX1_read_53 : decode cX1_read 53 = .ok (.ireturn, 1) := by decide +kernel
abbrev cX1_held : ByteArray := prog_1_method_24_code
def yX1_held : MethodName := ⟨RX1, "held", "(I)Z"⟩
theorem dX1_held_0 : decode cX1_held 0 = .ok (.iload_n 1, 1) := by decide +kernel
theorem dX1_held_1 : decode cX1_held 1 = .ok (.invokestatic 83, 3) := by decide +kernel
theorem dX1_held_4 : decode cX1_held 4 = .ok (.ifCond .ne 16, 3) := by decide +kernel
theorem dX1_held_7 : decode cX1_held 7 = .ok (.aload_n 0, 1) := by decide +kernel
theorem dX1_held_8 : decode cX1_held 8 = .ok (.getfield 7, 3) := by decide +kernel
theorem dX1_held_11 : decode cX1_held 11 = .ok (.iload_n 1, 1) := by decide +kernel
theorem dX1_held_12 : decode cX1_held 12 = .ok (.iaload, 1) := by decide +kernel
theorem dX1_held_13 : decode cX1_held 13 = .ok (.ifCond .eq 7, 3) := by decide +kernel
theorem dX1_held_16 : decode cX1_held 16 = .ok (.iconst 1, 1) := by decide +kernel
theorem dX1_held_17 : decode cX1_held 17 = .ok (.goto 4, 3) := by decide +kernel
theorem dX1_held_20 : decode cX1_held 20 = .ok (.iconst 0, 1) := by decide +kernel
theorem dX1_held_21 : decode cX1_held 21 = .ok (.ireturn, 1) := by decide +kernel
abbrev cX1_same : ByteArray := prog_1_method_26_code
def yX1_same : MethodName := ⟨RX1, "same", "(II)Z"⟩
theorem dX1_same_0 : decode cX1_same 0 = .ok (.iload_n 1, 1) := by decide +kernel
theorem dX1_same_1 : decode cX1_same 1 = .ok (.invokestatic 83, 3) := by decide +kernel
theorem dX1_same_4 : decode cX1_same 4 = .ok (.ifCond .ne 10, 3) := by decide +kernel
theorem dX1_same_7 : decode cX1_same 7 = .ok (.iload_n 2, 1) := by decide +kernel
theorem dX1_same_8 : decode cX1_same 8 = .ok (.invokestatic 83, 3) := by decide +kernel
theorem dX1_same_11 : decode cX1_same 11 = .ok (.ifCond .eq 5, 3) := by decide +kernel
theorem dX1_same_14 : decode cX1_same 14 = .ok (.iconst 0, 1) := by decide +kernel
theorem dX1_same_15 : decode cX1_same 15 = .ok (.ireturn, 1) := by decide +kernel
theorem dX1_same_16 : decode cX1_same 16 = .ok (.aload_n 0, 1) := by decide +kernel
theorem dX1_same_17 : decode cX1_same 17 = .ok (.iload_n 1, 1) := by decide +kernel
theorem dX1_same_18 : decode cX1_same 18 = .ok (.iload_n 2, 1) := by decide +kernel
theorem dX1_same_19 : decode cX1_same 19 = .ok (.invokevirtual 107, 3) := by decide +kernel
theorem dX1_same_22 : decode cX1_same 22 = .ok (.ireturn, 1) := by decide +kernel
abbrev cX1_equalPages : ByteArray := prog_1_method_25_code
def yX1_equalPages : MethodName := ⟨RX1, "equalPages", "(II)Z"⟩
theorem dX1_equalPages_0 : decode cX1_equalPages 0 = .ok (.aload_n 0, 1) := by decide +kernel
theorem dX1_equalPages_1 : decode cX1_equalPages 1 = .ok (.getfield 7, 3) := by decide +kernel
theorem dX1_equalPages_4 : decode cX1_equalPages 4 = .ok (.iload_n 1, 1) := by decide +kernel
theorem dX1_equalPages_5 : decode cX1_equalPages 5 = .ok (.iaload, 1) := by decide +kernel
theorem dX1_equalPages_6 : decode cX1_equalPages 6 = .ok (.iconst 1, 1) := by decide +kernel
theorem dX1_equalPages_7 : decode cX1_equalPages 7 = .ok (.if_icmp .ne 30, 3) := by decide +kernel
theorem dX1_equalPages_10 : decode cX1_equalPages 10 = .ok (.aload_n 0, 1) := by decide +kernel
theorem dX1_equalPages_11 : decode cX1_equalPages 11 = .ok (.getfield 7, 3) := by decide +kernel
theorem dX1_equalPages_14 : decode cX1_equalPages 14 = .ok (.iload_n 2, 1) := by decide +kernel
theorem dX1_equalPages_15 : decode cX1_equalPages 15 = .ok (.iaload, 1) := by decide +kernel
theorem dX1_equalPages_16 : decode cX1_equalPages 16 = .ok (.iconst 1, 1) := by decide +kernel
theorem dX1_equalPages_17 : decode cX1_equalPages 17 = .ok (.if_icmp .ne 20, 3) := by decide +kernel
theorem dX1_equalPages_20 : decode cX1_equalPages 20 = .ok (.aload_n 0, 1) := by decide +kernel
theorem dX1_equalPages_21 : decode cX1_equalPages 21 = .ok (.getfield 13, 3) := by decide +kernel
theorem dX1_equalPages_24 : decode cX1_equalPages 24 = .ok (.iload_n 1, 1) := by decide +kernel
theorem dX1_equalPages_25 : decode cX1_equalPages 25 = .ok (.iaload, 1) := by decide +kernel
theorem dX1_equalPages_26 : decode cX1_equalPages 26 = .ok (.aload_n 0, 1) := by decide +kernel
theorem dX1_equalPages_27 : decode cX1_equalPages 27 = .ok (.getfield 13, 3) := by decide +kernel
theorem dX1_equalPages_30 : decode cX1_equalPages 30 = .ok (.iload_n 2, 1) := by decide +kernel
theorem dX1_equalPages_31 : decode cX1_equalPages 31 = .ok (.iaload, 1) := by decide +kernel
theorem dX1_equalPages_32 : decode cX1_equalPages 32 = .ok (.if_icmp .ne 5, 3) := by decide +kernel
theorem dX1_equalPages_35 : decode cX1_equalPages 35 = .ok (.iconst 1, 1) := by decide +kernel
theorem dX1_equalPages_36 : decode cX1_equalPages 36 = .ok (.ireturn, 1) := by decide +kernel
theorem dX1_equalPages_37 : decode cX1_equalPages 37 = .ok (.iconst 0, 1) := by decide +kernel
theorem dX1_equalPages_38 : decode cX1_equalPages 38 = .ok (.istore_n 3, 1) := by decide +kernel
theorem dX1_equalPages_39 : decode cX1_equalPages 39 = .ok (.iload_n 3, 1) := by decide +kernel
theorem dX1_equalPages_40 : decode cX1_equalPages 40 = .ok (.iconst 4, 1) := by decide +kernel
theorem dX1_equalPages_41 : decode cX1_equalPages 41 = .ok (.if_icmp .ge 34, 3) := by decide +kernel
theorem dX1_equalPages_44 : decode cX1_equalPages 44 = .ok (.aload_n 0, 1) := by decide +kernel
theorem dX1_equalPages_45 : decode cX1_equalPages 45 = .ok (.iload_n 1, 1) := by decide +kernel
theorem dX1_equalPages_46 : decode cX1_equalPages 46 = .ok (.iload_n 3, 1) := by decide +kernel
theorem dX1_equalPages_47 : decode cX1_equalPages 47 = .ok (.invokevirtual 48, 3) := by decide +kernel
theorem dX1_equalPages_50 : decode cX1_equalPages 50 = .ok (.istore 4, 2) := by decide +kernel
theorem dX1_equalPages_52 : decode cX1_equalPages 52 = .ok (.aload_n 0, 1) := by decide +kernel
theorem dX1_equalPages_53 : decode cX1_equalPages 53 = .ok (.iload_n 2, 1) := by decide +kernel
theorem dX1_equalPages_54 : decode cX1_equalPages 54 = .ok (.iload_n 3, 1) := by decide +kernel
theorem dX1_equalPages_55 : decode cX1_equalPages 55 = .ok (.invokevirtual 48, 3) := by decide +kernel
theorem dX1_equalPages_58 : decode cX1_equalPages 58 = .ok (.istore 5, 2) := by decide +kernel
theorem dX1_equalPages_60 : decode cX1_equalPages 60 = .ok (.iload 4, 2) := by decide +kernel
theorem dX1_equalPages_62 : decode cX1_equalPages 62 = .ok (.iload 5, 2) := by decide +kernel
theorem dX1_equalPages_64 : decode cX1_equalPages 64 = .ok (.if_icmp .eq 5, 3) := by decide +kernel
theorem dX1_equalPages_67 : decode cX1_equalPages 67 = .ok (.iconst 0, 1) := by decide +kernel
theorem dX1_equalPages_68 : decode cX1_equalPages 68 = .ok (.ireturn, 1) := by decide +kernel
theorem dX1_equalPages_69 : decode cX1_equalPages 69 = .ok (.iinc 3 1, 3) := by decide +kernel
theorem dX1_equalPages_72 : decode cX1_equalPages 72 = .ok (.goto (-33), 3) := by decide +kernel
theorem dX1_equalPages_75 : decode cX1_equalPages 75 = .ok (.iconst 1, 1) := by decide +kernel
theorem dX1_equalPages_76 : decode cX1_equalPages 76 = .ok (.ireturn, 1) := by decide +kernel
abbrev cX1_contents : ByteArray := prog_1_method_28_code
def yX1_contents : MethodName := ⟨RX1, "contents", "()I"⟩
theorem dX1_contents_0 : decode cX1_contents 0 = .ok (.iconst 0, 1) := by decide +kernel
theorem dX1_contents_1 : decode cX1_contents 1 = .ok (.istore_n 1, 1) := by decide +kernel
theorem dX1_contents_2 : decode cX1_contents 2 = .ok (.iconst 0, 1) := by decide +kernel
theorem dX1_contents_3 : decode cX1_contents 3 = .ok (.istore_n 2, 1) := by decide +kernel
theorem dX1_contents_4 : decode cX1_contents 4 = .ok (.iload_n 2, 1) := by decide +kernel
theorem dX1_contents_5 : decode cX1_contents 5 = .ok (.bipush 24, 2) := by decide +kernel
theorem dX1_contents_7 : decode cX1_contents 7 = .ok (.if_icmp .ge 29, 3) := by decide +kernel
theorem dX1_contents_10 : decode cX1_contents 10 = .ok (.aload_n 0, 1) := by decide +kernel
theorem dX1_contents_11 : decode cX1_contents 11 = .ok (.getfield 7, 3) := by decide +kernel
theorem dX1_contents_14 : decode cX1_contents 14 = .ok (.iload_n 2, 1) := by decide +kernel
theorem dX1_contents_15 : decode cX1_contents 15 = .ok (.iaload, 1) := by decide +kernel
theorem dX1_contents_16 : decode cX1_contents 16 = .ok (.ifCond .eq 14, 3) := by decide +kernel
theorem dX1_contents_19 : decode cX1_contents 19 = .ok (.aload_n 0, 1) := by decide +kernel
theorem dX1_contents_20 : decode cX1_contents 20 = .ok (.iload_n 2, 1) := by decide +kernel
theorem dX1_contents_21 : decode cX1_contents 21 = .ok (.invokevirtual 110, 3) := by decide +kernel
theorem dX1_contents_24 : decode cX1_contents 24 = .ok (.ifCond .ne 6, 3) := by decide +kernel
theorem dX1_contents_27 : decode cX1_contents 27 = .ok (.iinc 1 1, 3) := by decide +kernel
theorem dX1_contents_30 : decode cX1_contents 30 = .ok (.iinc 2 1, 3) := by decide +kernel
theorem dX1_contents_33 : decode cX1_contents 33 = .ok (.goto (-29), 3) := by decide +kernel
theorem dX1_contents_36 : decode cX1_contents 36 = .ok (.iload_n 1, 1) := by decide +kernel
theorem dX1_contents_37 : decode cX1_contents 37 = .ok (.ireturn, 1) := by decide +kernel
abbrev cX1_repeats : ByteArray := prog_1_method_27_code
def yX1_repeats : MethodName := ⟨RX1, "repeats", "(I)Z"⟩
theorem dX1_repeats_0 : decode cX1_repeats 0 = .ok (.iconst 0, 1) := by decide +kernel
theorem dX1_repeats_1 : decode cX1_repeats 1 = .ok (.istore_n 2, 1) := by decide +kernel
theorem dX1_repeats_2 : decode cX1_repeats 2 = .ok (.iload_n 2, 1) := by decide +kernel
theorem dX1_repeats_3 : decode cX1_repeats 3 = .ok (.iload_n 1, 1) := by decide +kernel
theorem dX1_repeats_4 : decode cX1_repeats 4 = .ok (.if_icmp .ge 31, 3) := by decide +kernel
theorem dX1_repeats_7 : decode cX1_repeats 7 = .ok (.aload_n 0, 1) := by decide +kernel
theorem dX1_repeats_8 : decode cX1_repeats 8 = .ok (.getfield 7, 3) := by decide +kernel
theorem dX1_repeats_11 : decode cX1_repeats 11 = .ok (.iload_n 2, 1) := by decide +kernel
theorem dX1_repeats_12 : decode cX1_repeats 12 = .ok (.iaload, 1) := by decide +kernel
theorem dX1_repeats_13 : decode cX1_repeats 13 = .ok (.ifCond .eq 16, 3) := by decide +kernel
theorem dX1_repeats_16 : decode cX1_repeats 16 = .ok (.aload_n 0, 1) := by decide +kernel
theorem dX1_repeats_17 : decode cX1_repeats 17 = .ok (.iload_n 2, 1) := by decide +kernel
theorem dX1_repeats_18 : decode cX1_repeats 18 = .ok (.iload_n 1, 1) := by decide +kernel
theorem dX1_repeats_19 : decode cX1_repeats 19 = .ok (.invokevirtual 107, 3) := by decide +kernel
theorem dX1_repeats_22 : decode cX1_repeats 22 = .ok (.istore_n 3, 1) := by decide +kernel
theorem dX1_repeats_23 : decode cX1_repeats 23 = .ok (.iload_n 3, 1) := by decide +kernel
theorem dX1_repeats_24 : decode cX1_repeats 24 = .ok (.ifCond .eq 5, 3) := by decide +kernel
theorem dX1_repeats_27 : decode cX1_repeats 27 = .ok (.iconst 1, 1) := by decide +kernel
theorem dX1_repeats_28 : decode cX1_repeats 28 = .ok (.ireturn, 1) := by decide +kernel
theorem dX1_repeats_29 : decode cX1_repeats 29 = .ok (.iinc 2 1, 3) := by decide +kernel
theorem dX1_repeats_32 : decode cX1_repeats 32 = .ok (.goto (-30), 3) := by decide +kernel
theorem dX1_repeats_35 : decode cX1_repeats 35 = .ok (.iconst 0, 1) := by decide +kernel
theorem dX1_repeats_36 : decode cX1_repeats 36 = .ok (.ireturn, 1) := by decide +kernel
abbrev cX1_duplicates : ByteArray := prog_1_method_29_code
def yX1_duplicates : MethodName := ⟨RX1, "duplicates", "()I"⟩
theorem dX1_duplicates_0 : decode cX1_duplicates 0 = .ok (.iconst 0, 1) := by decide +kernel
theorem dX1_duplicates_1 : decode cX1_duplicates 1 = .ok (.istore_n 1, 1) := by decide +kernel
theorem dX1_duplicates_2 : decode cX1_duplicates 2 = .ok (.iconst 0, 1) := by decide +kernel
theorem dX1_duplicates_3 : decode cX1_duplicates 3 = .ok (.istore_n 2, 1) := by decide +kernel
theorem dX1_duplicates_4 : decode cX1_duplicates 4 = .ok (.iload_n 2, 1) := by decide +kernel
theorem dX1_duplicates_5 : decode cX1_duplicates 5 = .ok (.bipush 24, 2) := by decide +kernel
theorem dX1_duplicates_7 : decode cX1_duplicates 7 = .ok (.if_icmp .ge 29, 3) := by decide +kernel
theorem dX1_duplicates_10 : decode cX1_duplicates 10 = .ok (.aload_n 0, 1) := by decide +kernel
theorem dX1_duplicates_11 : decode cX1_duplicates 11 = .ok (.getfield 7, 3) := by decide +kernel
theorem dX1_duplicates_14 : decode cX1_duplicates 14 = .ok (.iload_n 2, 1) := by decide +kernel
theorem dX1_duplicates_15 : decode cX1_duplicates 15 = .ok (.iaload, 1) := by decide +kernel
theorem dX1_duplicates_16 : decode cX1_duplicates 16 = .ok (.ifCond .eq 14, 3) := by decide +kernel
theorem dX1_duplicates_19 : decode cX1_duplicates 19 = .ok (.aload_n 0, 1) := by decide +kernel
theorem dX1_duplicates_20 : decode cX1_duplicates 20 = .ok (.iload_n 2, 1) := by decide +kernel
theorem dX1_duplicates_21 : decode cX1_duplicates 21 = .ok (.invokevirtual 110, 3) := by decide +kernel
theorem dX1_duplicates_24 : decode cX1_duplicates 24 = .ok (.ifCond .eq 6, 3) := by decide +kernel
theorem dX1_duplicates_27 : decode cX1_duplicates 27 = .ok (.iinc 1 1, 3) := by decide +kernel
theorem dX1_duplicates_30 : decode cX1_duplicates 30 = .ok (.iinc 2 1, 3) := by decide +kernel
theorem dX1_duplicates_33 : decode cX1_duplicates 33 = .ok (.goto (-29), 3) := by decide +kernel
theorem dX1_duplicates_36 : decode cX1_duplicates 36 = .ok (.iload_n 1, 1) := by decide +kernel
theorem dX1_duplicates_37 : decode cX1_duplicates 37 = .ok (.ireturn, 1) := by decide +kernel
abbrev cX1_sum : ByteArray := prog_1_method_30_code
def yX1_sum : MethodName := ⟨RX1, "sum", "(I)I"⟩
theorem dX1_sum_0 : decode cX1_sum 0 = .ok (.iload_n 1, 1) := by decide +kernel
theorem dX1_sum_1 : decode cX1_sum 1 = .ok (.ifCond .lt 8, 3) := by decide +kernel
theorem dX1_sum_4 : decode cX1_sum 4 = .ok (.iload_n 1, 1) := by decide +kernel
theorem dX1_sum_5 : decode cX1_sum 5 = .ok (.iconst 2, 1) := by decide +kernel
theorem dX1_sum_6 : decode cX1_sum 6 = .ok (.if_icmp .le 5, 3) := by decide +kernel
theorem dX1_sum_9 : decode cX1_sum 9 = .ok (.iconst 0, 1) := by decide +kernel
theorem dX1_sum_10 : decode cX1_sum 10 = .ok (.ireturn, 1) := by decide +kernel
theorem dX1_sum_11 : decode cX1_sum 11 = .ok (.iconst 0, 1) := by decide +kernel
theorem dX1_sum_12 : decode cX1_sum 12 = .ok (.istore_n 2, 1) := by decide +kernel
theorem dX1_sum_13 : decode cX1_sum 13 = .ok (.iload_n 1, 1) := by decide +kernel
theorem dX1_sum_14 : decode cX1_sum 14 = .ok (.bipush 8, 2) := by decide +kernel
theorem dX1_sum_16 : decode cX1_sum 16 = .ok (.imul, 1) := by decide +kernel
theorem dX1_sum_17 : decode cX1_sum 17 = .ok (.istore_n 3, 1) := by decide +kernel
theorem dX1_sum_18 : decode cX1_sum 18 = .ok (.iload_n 3, 1) := by decide +kernel
theorem dX1_sum_19 : decode cX1_sum 19 = .ok (.iload_n 1, 1) := by decide +kernel
theorem dX1_sum_20 : decode cX1_sum 20 = .ok (.bipush 8, 2) := by decide +kernel
theorem dX1_sum_22 : decode cX1_sum 22 = .ok (.imul, 1) := by decide +kernel
theorem dX1_sum_23 : decode cX1_sum 23 = .ok (.bipush 8, 2) := by decide +kernel
theorem dX1_sum_25 : decode cX1_sum 25 = .ok (.iadd, 1) := by decide +kernel
theorem dX1_sum_26 : decode cX1_sum 26 = .ok (.if_icmp .ge 34, 3) := by decide +kernel
theorem dX1_sum_29 : decode cX1_sum 29 = .ok (.iconst 0, 1) := by decide +kernel
theorem dX1_sum_30 : decode cX1_sum 30 = .ok (.istore 4, 2) := by decide +kernel
theorem dX1_sum_32 : decode cX1_sum 32 = .ok (.iload 4, 2) := by decide +kernel
theorem dX1_sum_34 : decode cX1_sum 34 = .ok (.iconst 4, 1) := by decide +kernel
theorem dX1_sum_35 : decode cX1_sum 35 = .ok (.if_icmp .ge 19, 3) := by decide +kernel
theorem dX1_sum_38 : decode cX1_sum 38 = .ok (.iload_n 2, 1) := by decide +kernel
theorem dX1_sum_39 : decode cX1_sum 39 = .ok (.aload_n 0, 1) := by decide +kernel
theorem dX1_sum_40 : decode cX1_sum 40 = .ok (.iload_n 3, 1) := by decide +kernel
theorem dX1_sum_41 : decode cX1_sum 41 = .ok (.iload 4, 2) := by decide +kernel
theorem dX1_sum_43 : decode cX1_sum 43 = .ok (.invokevirtual 48, 3) := by decide +kernel
theorem dX1_sum_46 : decode cX1_sum 46 = .ok (.iadd, 1) := by decide +kernel
theorem dX1_sum_47 : decode cX1_sum 47 = .ok (.istore_n 2, 1) := by decide +kernel
theorem dX1_sum_48 : decode cX1_sum 48 = .ok (.iinc 4 1, 3) := by decide +kernel
theorem dX1_sum_51 : decode cX1_sum 51 = .ok (.goto (-19), 3) := by decide +kernel
theorem dX1_sum_54 : decode cX1_sum 54 = .ok (.iinc 3 1, 3) := by decide +kernel
theorem dX1_sum_57 : decode cX1_sum 57 = .ok (.goto (-39), 3) := by decide +kernel
theorem dX1_sum_60 : decode cX1_sum 60 = .ok (.iload_n 2, 1) := by decide +kernel
theorem dX1_sum_61 : decode cX1_sum 61 = .ok (.ireturn, 1) := by decide +kernel
abbrev cX1_plain : ByteArray := prog_1_method_31_code
def yX1_plain : MethodName := ⟨RX1, "plain", "()I"⟩
theorem dX1_plain_0 : decode cX1_plain 0 = .ok (.iconst 0, 1) := by decide +kernel
theorem dX1_plain_1 : decode cX1_plain 1 = .ok (.istore_n 1, 1) := by decide +kernel
theorem dX1_plain_2 : decode cX1_plain 2 = .ok (.iconst 0, 1) := by decide +kernel
theorem dX1_plain_3 : decode cX1_plain 3 = .ok (.istore_n 2, 1) := by decide +kernel
theorem dX1_plain_4 : decode cX1_plain 4 = .ok (.iload_n 2, 1) := by decide +kernel
theorem dX1_plain_5 : decode cX1_plain 5 = .ok (.bipush 24, 2) := by decide +kernel
theorem dX1_plain_7 : decode cX1_plain 7 = .ok (.if_icmp .ge 32, 3) := by decide +kernel
theorem dX1_plain_10 : decode cX1_plain 10 = .ok (.aload_n 0, 1) := by decide +kernel
theorem dX1_plain_11 : decode cX1_plain 11 = .ok (.getfield 7, 3) := by decide +kernel
theorem dX1_plain_14 : decode cX1_plain 14 = .ok (.iload_n 2, 1) := by decide +kernel
theorem dX1_plain_15 : decode cX1_plain 15 = .ok (.iaload, 1) := by decide +kernel
theorem dX1_plain_16 : decode cX1_plain 16 = .ok (.ifCond .eq 17, 3) := by decide +kernel
theorem dX1_plain_19 : decode cX1_plain 19 = .ok (.aload_n 0, 1) := by decide +kernel
theorem dX1_plain_20 : decode cX1_plain 20 = .ok (.iload_n 2, 1) := by decide +kernel
theorem dX1_plain_21 : decode cX1_plain 21 = .ok (.invokevirtual 56, 3) := by decide +kernel
theorem dX1_plain_24 : decode cX1_plain 24 = .ok (.istore_n 3, 1) := by decide +kernel
theorem dX1_plain_25 : decode cX1_plain 25 = .ok (.iload_n 3, 1) := by decide +kernel
theorem dX1_plain_26 : decode cX1_plain 26 = .ok (.iconst 4, 1) := by decide +kernel
theorem dX1_plain_27 : decode cX1_plain 27 = .ok (.if_icmp .ne 6, 3) := by decide +kernel
theorem dX1_plain_30 : decode cX1_plain 30 = .ok (.iinc 1 1, 3) := by decide +kernel
theorem dX1_plain_33 : decode cX1_plain 33 = .ok (.iinc 2 1, 3) := by decide +kernel
theorem dX1_plain_36 : decode cX1_plain 36 = .ok (.goto (-32), 3) := by decide +kernel
theorem dX1_plain_39 : decode cX1_plain 39 = .ok (.iload_n 1, 1) := by decide +kernel
theorem dX1_plain_40 : decode cX1_plain 40 = .ok (.ireturn, 1) := by decide +kernel
end
section
set_option maxRecDepth 100000
theorem q18 : (Jvm.Cond.initialized "PageMerger") ∈ lw_all := lw_g (lw_at lw_m1 1 rfl) rfl
theorem q21 : (Jvm.Cond.instantiable "PageMerger" (14 : Nat)) ∈ lw_all := lw_g (lw_at lw_m1 4 rfl) rfl
theorem q23 : (Jvm.Cond.instanceMethod ({ cls := "PageMerger", name := "<init>", desc := "(I)V" } : Jvm.MethodName)) ∈ lw_all := lw_g (lw_at lw_m1 6 rfl) rfl
theorem q24 : (Jvm.Cond.code ({ cls := "PageMerger", name := "<init>", desc := "(I)V" } : Jvm.MethodName) prog_1_method_1_code (4 : Nat) (Option.none : Option Jvm.ClassFile.FieldType)) ∈ lw_all := lw_g (lw_at lw_m1 7 rfl) rfl
theorem q25 : (Jvm.Cond.methodLink "PageMerger" (1 : Nat) ({ cls := "java/lang/Object", name := "<init>", desc := "()V" } : Jvm.MethodName)) ∈ lw_all := lw_g (lw_at lw_m1 8 rfl) rfl
theorem q28 : (Jvm.Cond.fieldLink "PageMerger" (44 : Nat) "PageMerger" "frames" "I") ∈ lw_all := lw_g (lw_at lw_m1 11 rfl) rfl
theorem q29 : (Jvm.Cond.fieldLink "PageMerger" (7 : Nat) "PageMerger" "form" "[I") ∈ lw_all := lw_g (lw_at lw_m1 12 rfl) rfl
theorem q30 : (Jvm.Cond.fieldLink "PageMerger" (13 : Nat) "PageMerger" "where" "[I") ∈ lw_all := lw_g (lw_at lw_m1 13 rfl) rfl
theorem q31 : (Jvm.Cond.fieldLink "PageMerger" (16 : Nat) "PageMerger" "touched" "[Z") ∈ lw_all := lw_g (lw_at lw_m1 14 rfl) rfl
theorem q32 : (Jvm.Cond.fieldLink "PageMerger" (71 : Nat) "PageMerger" "hand" "I") ∈ lw_all := lw_g (lw_at lw_m1 15 rfl) rfl
theorem q33 : (Jvm.Cond.fieldLink "PageMerger" (101 : Nat) "PageMerger" "scanAt" "I") ∈ lw_all := lw_g (lw_at lw_m1 16 rfl) rfl
theorem q34 : (Jvm.Cond.fieldLink "PageMerger" (20 : Nat) "PageMerger" "holders" "[I") ∈ lw_all := lw_g (lw_at lw_m1 17 rfl) rfl
theorem q35 : (Jvm.Cond.fieldLink "PageMerger" (23 : Nat) "PageMerger" "memory" "[I") ∈ lw_all := lw_g (lw_at lw_m1 18 rfl) rfl
theorem q36 : (Jvm.Cond.fieldLink "PageMerger" (26 : Nat) "PageMerger" "recordUsed" "[Z") ∈ lw_all := lw_g (lw_at lw_m1 19 rfl) rfl
theorem q37 : (Jvm.Cond.fieldLink "PageMerger" (29 : Nat) "PageMerger" "runLength" "[I") ∈ lw_all := lw_g (lw_at lw_m1 20 rfl) rfl
theorem q38 : (Jvm.Cond.fieldLink "PageMerger" (32 : Nat) "PageMerger" "firstValue" "[I") ∈ lw_all := lw_g (lw_at lw_m1 21 rfl) rfl
theorem q39 : (Jvm.Cond.fieldLink "PageMerger" (35 : Nat) "PageMerger" "secondValue" "[I") ∈ lw_all := lw_g (lw_at lw_m1 22 rfl) rfl
theorem q40 : (Jvm.Cond.fieldLink "PageMerger" (38 : Nat) "PageMerger" "asideUsed" "[Z") ∈ lw_all := lw_g (lw_at lw_m1 23 rfl) rfl
theorem q41 : (Jvm.Cond.fieldLink "PageMerger" (41 : Nat) "PageMerger" "aside" "[I") ∈ lw_all := lw_g (lw_at lw_m1 24 rfl) rfl
theorem q42 : (Jvm.Cond.laysFinal "PageMerger" "PageMerger" "frames" "I") ∈ lw_all := lw_g (lw_at lw_m1 25 rfl) rfl
theorem q43 : (Jvm.Cond.soleField "PageMerger" "frames") ∈ lw_all := lw_g (lw_at lw_m1 26 rfl) rfl
theorem q44 : (Jvm.Cond.laysFinal "PageMerger" "PageMerger" "form" "[I") ∈ lw_all := lw_g (lw_at lw_m1 27 rfl) rfl
theorem q45 : (Jvm.Cond.soleField "PageMerger" "form") ∈ lw_all := lw_g (lw_at lw_m1 28 rfl) rfl
theorem q46 : (Jvm.Cond.laysFinal "PageMerger" "PageMerger" "where" "[I") ∈ lw_all := lw_g (lw_at lw_m1 29 rfl) rfl
theorem q47 : (Jvm.Cond.soleField "PageMerger" "where") ∈ lw_all := lw_g (lw_at lw_m1 30 rfl) rfl
theorem q48 : (Jvm.Cond.laysFinal "PageMerger" "PageMerger" "touched" "[Z") ∈ lw_all := lw_g (lw_at lw_m1 31 rfl) rfl
theorem q49 : (Jvm.Cond.soleField "PageMerger" "touched") ∈ lw_all := lw_g (lw_at lw_m1 32 rfl) rfl
theorem q50 : (Jvm.Cond.lays "PageMerger" "PageMerger" "hand" "I") ∈ lw_all := lw_g (lw_at lw_m1 33 rfl) rfl
theorem q51 : (Jvm.Cond.soleField "PageMerger" "hand") ∈ lw_all := lw_g (lw_at lw_m1 34 rfl) rfl
theorem q52 : (Jvm.Cond.lays "PageMerger" "PageMerger" "scanAt" "I") ∈ lw_all := lw_g (lw_at lw_m1 35 rfl) rfl
theorem q53 : (Jvm.Cond.soleField "PageMerger" "scanAt") ∈ lw_all := lw_g (lw_at lw_m1 36 rfl) rfl
theorem q54 : (Jvm.Cond.laysFinal "PageMerger" "PageMerger" "holders" "[I") ∈ lw_all := lw_g (lw_at lw_m1 37 rfl) rfl
theorem q55 : (Jvm.Cond.soleField "PageMerger" "holders") ∈ lw_all := lw_g (lw_at lw_m1 38 rfl) rfl
theorem q56 : (Jvm.Cond.laysFinal "PageMerger" "PageMerger" "memory" "[I") ∈ lw_all := lw_g (lw_at lw_m1 39 rfl) rfl
theorem q57 : (Jvm.Cond.soleField "PageMerger" "memory") ∈ lw_all := lw_g (lw_at lw_m1 40 rfl) rfl
theorem q58 : (Jvm.Cond.laysFinal "PageMerger" "PageMerger" "recordUsed" "[Z") ∈ lw_all := lw_g (lw_at lw_m1 41 rfl) rfl
theorem q59 : (Jvm.Cond.soleField "PageMerger" "recordUsed") ∈ lw_all := lw_g (lw_at lw_m1 42 rfl) rfl
theorem q60 : (Jvm.Cond.laysFinal "PageMerger" "PageMerger" "runLength" "[I") ∈ lw_all := lw_g (lw_at lw_m1 43 rfl) rfl
theorem q61 : (Jvm.Cond.soleField "PageMerger" "runLength") ∈ lw_all := lw_g (lw_at lw_m1 44 rfl) rfl
theorem q62 : (Jvm.Cond.laysFinal "PageMerger" "PageMerger" "firstValue" "[I") ∈ lw_all := lw_g (lw_at lw_m1 45 rfl) rfl
theorem q63 : (Jvm.Cond.soleField "PageMerger" "firstValue") ∈ lw_all := lw_g (lw_at lw_m1 46 rfl) rfl
theorem q64 : (Jvm.Cond.laysFinal "PageMerger" "PageMerger" "secondValue" "[I") ∈ lw_all := lw_g (lw_at lw_m1 47 rfl) rfl
theorem q65 : (Jvm.Cond.soleField "PageMerger" "secondValue") ∈ lw_all := lw_g (lw_at lw_m1 48 rfl) rfl
theorem q66 : (Jvm.Cond.laysFinal "PageMerger" "PageMerger" "asideUsed" "[Z") ∈ lw_all := lw_g (lw_at lw_m1 49 rfl) rfl
theorem q67 : (Jvm.Cond.soleField "PageMerger" "asideUsed") ∈ lw_all := lw_g (lw_at lw_m1 50 rfl) rfl
theorem q68 : (Jvm.Cond.laysFinal "PageMerger" "PageMerger" "aside" "[I") ∈ lw_all := lw_g (lw_at lw_m1 51 rfl) rfl
theorem q69 : (Jvm.Cond.soleField "PageMerger" "aside") ∈ lw_all := lw_g (lw_at lw_m1 52 rfl) rfl
theorem q70 : (Jvm.Cond.superclass "PageMerger" "java/lang/Object") ∈ lw_all := lw_g (lw_at lw_m1 53 rfl) rfl
theorem q74 : (Jvm.Cond.instanceMethod ({ cls := "PageMerger", name := "write", desc := "(III)I" } : Jvm.MethodName)) ∈ lw_all := lw_g (lw_at lw_m1 57 rfl) rfl
theorem q75 : (Jvm.Cond.selects "PageMerger" ({ cls := "PageMerger", name := "write", desc := "(III)I" } : Jvm.MethodName) ({ cls := "PageMerger", name := "write", desc := "(III)I" } : Jvm.MethodName)) ∈ lw_all := lw_g (lw_at lw_m1 58 rfl) rfl
theorem q76 : (Jvm.Cond.code ({ cls := "PageMerger", name := "write", desc := "(III)I" } : Jvm.MethodName) prog_1_method_13_code (6 : Nat) (Option.some Jvm.ClassFile.FieldType.int)) ∈ lw_all := lw_g (lw_at lw_m1 59 rfl) rfl
theorem q77 : (Jvm.Cond.methodLink "PageMerger" (83 : Nat) ({ cls := "PageMerger", name := "bad", desc := "(I)Z" } : Jvm.MethodName)) ∈ lw_all := lw_g (lw_at lw_m1 60 rfl) rfl
theorem q78 : (Jvm.Cond.static ({ cls := "PageMerger", name := "bad", desc := "(I)Z" } : Jvm.MethodName)) ∈ lw_all := lw_g (lw_at lw_m1 61 rfl) rfl
theorem q79 : (Jvm.Cond.code ({ cls := "PageMerger", name := "bad", desc := "(I)Z" } : Jvm.MethodName) prog_1_method_2_code (1 : Nat) (Option.some Jvm.ClassFile.FieldType.boolean)) ∈ lw_all := lw_g (lw_at lw_m1 62 rfl) rfl
theorem q80 : (Jvm.Cond.methodLink "PageMerger" (87 : Nat) ({ cls := "PageMerger", name := "own", desc := "(I)V" } : Jvm.MethodName)) ∈ lw_all := lw_g (lw_at lw_m1 63 rfl) rfl
theorem q81 : (Jvm.Cond.privateMethod ({ cls := "PageMerger", name := "own", desc := "(I)V" } : Jvm.MethodName)) ∈ lw_tbl := lw_at lw_m1 64 rfl
theorem q82 : (Jvm.Cond.instanceMethod ({ cls := "PageMerger", name := "own", desc := "(I)V" } : Jvm.MethodName)) ∈ lw_all := lw_g (lw_at lw_m1 65 rfl) rfl
theorem q83 : (Jvm.Cond.code ({ cls := "PageMerger", name := "own", desc := "(I)V" } : Jvm.MethodName) prog_1_method_12_code (5 : Nat) (Option.none : Option Jvm.ClassFile.FieldType)) ∈ lw_all := lw_g (lw_at lw_m1 66 rfl) rfl
theorem q84 : (Jvm.Cond.methodLink "PageMerger" (80 : Nat) ({ cls := "PageMerger", name := "bringIn", desc := "(II)V" } : Jvm.MethodName)) ∈ lw_all := lw_g (lw_at lw_m1 67 rfl) rfl
theorem q85 : (Jvm.Cond.privateMethod ({ cls := "PageMerger", name := "bringIn", desc := "(II)V" } : Jvm.MethodName)) ∈ lw_tbl := lw_at lw_m1 68 rfl
theorem q86 : (Jvm.Cond.instanceMethod ({ cls := "PageMerger", name := "bringIn", desc := "(II)V" } : Jvm.MethodName)) ∈ lw_all := lw_g (lw_at lw_m1 69 rfl) rfl
theorem q87 : (Jvm.Cond.code ({ cls := "PageMerger", name := "bringIn", desc := "(II)V" } : Jvm.MethodName) prog_1_method_11_code (5 : Nat) (Option.none : Option Jvm.ClassFile.FieldType)) ∈ lw_all := lw_g (lw_at lw_m1 70 rfl) rfl
theorem q88 : (Jvm.Cond.methodLink "PageMerger" (77 : Nat) ({ cls := "PageMerger", name := "takeFrame", desc := "(II)I" } : Jvm.MethodName)) ∈ lw_all := lw_g (lw_at lw_m1 71 rfl) rfl
theorem q89 : (Jvm.Cond.privateMethod ({ cls := "PageMerger", name := "takeFrame", desc := "(II)I" } : Jvm.MethodName)) ∈ lw_tbl := lw_at lw_m1 72 rfl
theorem q90 : (Jvm.Cond.instanceMethod ({ cls := "PageMerger", name := "takeFrame", desc := "(II)I" } : Jvm.MethodName)) ∈ lw_all := lw_g (lw_at lw_m1 73 rfl) rfl
theorem q91 : (Jvm.Cond.code ({ cls := "PageMerger", name := "takeFrame", desc := "(II)I" } : Jvm.MethodName) prog_1_method_10_code (6 : Nat) (Option.some Jvm.ClassFile.FieldType.int)) ∈ lw_all := lw_g (lw_at lw_m1 74 rfl) rfl
theorem q92 : (Jvm.Cond.methodLink "PageMerger" (67 : Nat) ({ cls := "PageMerger", name := "freeFrame", desc := "()I" } : Jvm.MethodName)) ∈ lw_all := lw_g (lw_at lw_m1 75 rfl) rfl
theorem q93 : (Jvm.Cond.privateMethod ({ cls := "PageMerger", name := "freeFrame", desc := "()I" } : Jvm.MethodName)) ∈ lw_tbl := lw_at lw_m1 76 rfl
theorem q94 : (Jvm.Cond.instanceMethod ({ cls := "PageMerger", name := "freeFrame", desc := "()I" } : Jvm.MethodName)) ∈ lw_all := lw_g (lw_at lw_m1 77 rfl) rfl
theorem q95 : (Jvm.Cond.code ({ cls := "PageMerger", name := "freeFrame", desc := "()I" } : Jvm.MethodName) prog_1_method_9_code (2 : Nat) (Option.some Jvm.ClassFile.FieldType.int)) ∈ lw_all := lw_g (lw_at lw_m1 78 rfl) rfl
theorem q96 : (Jvm.Cond.methodLink "PageMerger" (74 : Nat) ({ cls := "PageMerger", name := "evict", desc := "(I)V" } : Jvm.MethodName)) ∈ lw_all := lw_g (lw_at lw_m1 79 rfl) rfl
theorem q97 : (Jvm.Cond.privateMethod ({ cls := "PageMerger", name := "evict", desc := "(I)V" } : Jvm.MethodName)) ∈ lw_tbl := lw_at lw_m1 80 rfl
theorem q98 : (Jvm.Cond.instanceMethod ({ cls := "PageMerger", name := "evict", desc := "(I)V" } : Jvm.MethodName)) ∈ lw_all := lw_g (lw_at lw_m1 81 rfl) rfl
theorem q99 : (Jvm.Cond.code ({ cls := "PageMerger", name := "evict", desc := "(I)V" } : Jvm.MethodName) prog_1_method_8_code (3 : Nat) (Option.none : Option Jvm.ClassFile.FieldType)) ∈ lw_all := lw_g (lw_at lw_m1 82 rfl) rfl
theorem q100 : (Jvm.Cond.methodLink "PageMerger" (56 : Nat) ({ cls := "PageMerger", name := "runsOf", desc := "(I)I" } : Jvm.MethodName)) ∈ lw_all := lw_g (lw_at lw_m1 83 rfl) rfl
theorem q101 : (Jvm.Cond.privateMethod ({ cls := "PageMerger", name := "runsOf", desc := "(I)I" } : Jvm.MethodName)) ∈ lw_tbl := lw_at lw_m1 84 rfl
theorem q102 : (Jvm.Cond.instanceMethod ({ cls := "PageMerger", name := "runsOf", desc := "(I)I" } : Jvm.MethodName)) ∈ lw_all := lw_g (lw_at lw_m1 85 rfl) rfl
theorem q103 : (Jvm.Cond.code ({ cls := "PageMerger", name := "runsOf", desc := "(I)I" } : Jvm.MethodName) prog_1_method_5_code (7 : Nat) (Option.some Jvm.ClassFile.FieldType.int)) ∈ lw_all := lw_g (lw_at lw_m1 86 rfl) rfl
theorem q104 : (Jvm.Cond.methodLink "PageMerger" (48 : Nat) ({ cls := "PageMerger", name := "peek", desc := "(II)I" } : Jvm.MethodName)) ∈ lw_all := lw_g (lw_at lw_m1 87 rfl) rfl
theorem q105 : (Jvm.Cond.privateMethod ({ cls := "PageMerger", name := "peek", desc := "(II)I" } : Jvm.MethodName)) ∈ lw_tbl := lw_at lw_m1 88 rfl
theorem q106 : (Jvm.Cond.instanceMethod ({ cls := "PageMerger", name := "peek", desc := "(II)I" } : Jvm.MethodName)) ∈ lw_all := lw_g (lw_at lw_m1 89 rfl) rfl
theorem q107 : (Jvm.Cond.code ({ cls := "PageMerger", name := "peek", desc := "(II)I" } : Jvm.MethodName) prog_1_method_3_code (4 : Nat) (Option.some Jvm.ClassFile.FieldType.int)) ∈ lw_all := lw_g (lw_at lw_m1 90 rfl) rfl
theorem q108 : (Jvm.Cond.methodLink "PageMerger" (60 : Nat) ({ cls := "PageMerger", name := "squeeze", desc := "(II)V" } : Jvm.MethodName)) ∈ lw_all := lw_g (lw_at lw_m1 91 rfl) rfl
theorem q109 : (Jvm.Cond.privateMethod ({ cls := "PageMerger", name := "squeeze", desc := "(II)V" } : Jvm.MethodName)) ∈ lw_tbl := lw_at lw_m1 92 rfl
theorem q110 : (Jvm.Cond.instanceMethod ({ cls := "PageMerger", name := "squeeze", desc := "(II)V" } : Jvm.MethodName)) ∈ lw_all := lw_g (lw_at lw_m1 93 rfl) rfl
theorem q111 : (Jvm.Cond.code ({ cls := "PageMerger", name := "squeeze", desc := "(II)V" } : Jvm.MethodName) prog_1_method_6_code (4 : Nat) (Option.none : Option Jvm.ClassFile.FieldType)) ∈ lw_all := lw_g (lw_at lw_m1 94 rfl) rfl
theorem q112 : (Jvm.Cond.methodLink "PageMerger" (52 : Nat) ({ cls := "PageMerger", name := "letGo", desc := "(I)V" } : Jvm.MethodName)) ∈ lw_all := lw_g (lw_at lw_m1 95 rfl) rfl
theorem q113 : (Jvm.Cond.privateMethod ({ cls := "PageMerger", name := "letGo", desc := "(I)V" } : Jvm.MethodName)) ∈ lw_tbl := lw_at lw_m1 96 rfl
theorem q114 : (Jvm.Cond.instanceMethod ({ cls := "PageMerger", name := "letGo", desc := "(I)V" } : Jvm.MethodName)) ∈ lw_all := lw_g (lw_at lw_m1 97 rfl) rfl
theorem q115 : (Jvm.Cond.code ({ cls := "PageMerger", name := "letGo", desc := "(I)V" } : Jvm.MethodName) prog_1_method_4_code (3 : Nat) (Option.none : Option Jvm.ClassFile.FieldType)) ∈ lw_all := lw_g (lw_at lw_m1 98 rfl) rfl
theorem q116 : (Jvm.Cond.methodLink "PageMerger" (64 : Nat) ({ cls := "PageMerger", name := "putAside", desc := "(I)V" } : Jvm.MethodName)) ∈ lw_all := lw_g (lw_at lw_m1 99 rfl) rfl
theorem q117 : (Jvm.Cond.privateMethod ({ cls := "PageMerger", name := "putAside", desc := "(I)V" } : Jvm.MethodName)) ∈ lw_tbl := lw_at lw_m1 100 rfl
theorem q118 : (Jvm.Cond.instanceMethod ({ cls := "PageMerger", name := "putAside", desc := "(I)V" } : Jvm.MethodName)) ∈ lw_all := lw_g (lw_at lw_m1 101 rfl) rfl
theorem q119 : (Jvm.Cond.code ({ cls := "PageMerger", name := "putAside", desc := "(I)V" } : Jvm.MethodName) prog_1_method_7_code (4 : Nat) (Option.none : Option Jvm.ClassFile.FieldType)) ∈ lw_all := lw_g (lw_at lw_m1 102 rfl) rfl
theorem q121 : (Jvm.Cond.instanceMethod ({ cls := "PageMerger", name := "fill", desc := "(II)I" } : Jvm.MethodName)) ∈ lw_all := lw_g (lw_at lw_m1 104 rfl) rfl
theorem q122 : (Jvm.Cond.selects "PageMerger" ({ cls := "PageMerger", name := "fill", desc := "(II)I" } : Jvm.MethodName) ({ cls := "PageMerger", name := "fill", desc := "(II)I" } : Jvm.MethodName)) ∈ lw_all := lw_g (lw_at lw_m1 105 rfl) rfl
theorem q123 : (Jvm.Cond.code ({ cls := "PageMerger", name := "fill", desc := "(II)I" } : Jvm.MethodName) prog_1_method_14_code (4 : Nat) (Option.some Jvm.ClassFile.FieldType.int)) ∈ lw_all := lw_g (lw_at lw_m1 106 rfl) rfl
theorem q125 : (Jvm.Cond.instanceMethod ({ cls := "PageMerger", name := "copy", desc := "(II)I" } : Jvm.MethodName)) ∈ lw_all := lw_g (lw_at lw_m1 108 rfl) rfl
theorem q126 : (Jvm.Cond.selects "PageMerger" ({ cls := "PageMerger", name := "copy", desc := "(II)I" } : Jvm.MethodName) ({ cls := "PageMerger", name := "copy", desc := "(II)I" } : Jvm.MethodName)) ∈ lw_all := lw_g (lw_at lw_m1 109 rfl) rfl
theorem q127 : (Jvm.Cond.code ({ cls := "PageMerger", name := "copy", desc := "(II)I" } : Jvm.MethodName) prog_1_method_15_code (3 : Nat) (Option.some Jvm.ClassFile.FieldType.int)) ∈ lw_all := lw_g (lw_at lw_m1 110 rfl) rfl
theorem q129 : (Jvm.Cond.instanceMethod ({ cls := "PageMerger", name := "swap", desc := "(II)I" } : Jvm.MethodName)) ∈ lw_all := lw_g (lw_at lw_m1 112 rfl) rfl
theorem q130 : (Jvm.Cond.selects "PageMerger" ({ cls := "PageMerger", name := "swap", desc := "(II)I" } : Jvm.MethodName) ({ cls := "PageMerger", name := "swap", desc := "(II)I" } : Jvm.MethodName)) ∈ lw_all := lw_g (lw_at lw_m1 113 rfl) rfl
theorem q131 : (Jvm.Cond.code ({ cls := "PageMerger", name := "swap", desc := "(II)I" } : Jvm.MethodName) prog_1_method_16_code (5 : Nat) (Option.some Jvm.ClassFile.FieldType.int)) ∈ lw_all := lw_g (lw_at lw_m1 114 rfl) rfl
theorem q133 : (Jvm.Cond.instanceMethod ({ cls := "PageMerger", name := "release", desc := "(I)I" } : Jvm.MethodName)) ∈ lw_all := lw_g (lw_at lw_m1 116 rfl) rfl
theorem q134 : (Jvm.Cond.selects "PageMerger" ({ cls := "PageMerger", name := "release", desc := "(I)I" } : Jvm.MethodName) ({ cls := "PageMerger", name := "release", desc := "(I)I" } : Jvm.MethodName)) ∈ lw_all := lw_g (lw_at lw_m1 117 rfl) rfl
theorem q135 : (Jvm.Cond.code ({ cls := "PageMerger", name := "release", desc := "(I)I" } : Jvm.MethodName) prog_1_method_17_code (2 : Nat) (Option.some Jvm.ClassFile.FieldType.int)) ∈ lw_all := lw_g (lw_at lw_m1 118 rfl) rfl
theorem q137 : (Jvm.Cond.instanceMethod ({ cls := "PageMerger", name := "scan", desc := "(I)V" } : Jvm.MethodName)) ∈ lw_all := lw_g (lw_at lw_m1 120 rfl) rfl
theorem q138 : (Jvm.Cond.selects "PageMerger" ({ cls := "PageMerger", name := "scan", desc := "(I)V" } : Jvm.MethodName) ({ cls := "PageMerger", name := "scan", desc := "(I)V" } : Jvm.MethodName)) ∈ lw_all := lw_g (lw_at lw_m1 121 rfl) rfl
theorem q139 : (Jvm.Cond.code ({ cls := "PageMerger", name := "scan", desc := "(I)V" } : Jvm.MethodName) prog_1_method_22_code (4 : Nat) (Option.none : Option Jvm.ClassFile.FieldType)) ∈ lw_all := lw_g (lw_at lw_m1 122 rfl) rfl
theorem q140 : (Jvm.Cond.methodLink "PageMerger" (104 : Nat) ({ cls := "PageMerger", name := "merge", desc := "(I)V" } : Jvm.MethodName)) ∈ lw_all := lw_g (lw_at lw_m1 123 rfl) rfl
theorem q141 : (Jvm.Cond.privateMethod ({ cls := "PageMerger", name := "merge", desc := "(I)V" } : Jvm.MethodName)) ∈ lw_tbl := lw_at lw_m1 124 rfl
theorem q142 : (Jvm.Cond.instanceMethod ({ cls := "PageMerger", name := "merge", desc := "(I)V" } : Jvm.MethodName)) ∈ lw_all := lw_g (lw_at lw_m1 125 rfl) rfl
theorem q143 : (Jvm.Cond.code ({ cls := "PageMerger", name := "merge", desc := "(I)V" } : Jvm.MethodName) prog_1_method_21_code (7 : Nat) (Option.none : Option Jvm.ClassFile.FieldType)) ∈ lw_all := lw_g (lw_at lw_m1 126 rfl) rfl
theorem q144 : (Jvm.Cond.methodLink "PageMerger" (94 : Nat) ({ cls := "PageMerger", name := "hashOf", desc := "(I)I" } : Jvm.MethodName)) ∈ lw_all := lw_g (lw_at lw_m1 127 rfl) rfl
theorem q145 : (Jvm.Cond.privateMethod ({ cls := "PageMerger", name := "hashOf", desc := "(I)I" } : Jvm.MethodName)) ∈ lw_tbl := lw_at lw_m1 128 rfl
theorem q146 : (Jvm.Cond.instanceMethod ({ cls := "PageMerger", name := "hashOf", desc := "(I)I" } : Jvm.MethodName)) ∈ lw_all := lw_g (lw_at lw_m1 129 rfl) rfl
theorem q147 : (Jvm.Cond.code ({ cls := "PageMerger", name := "hashOf", desc := "(I)I" } : Jvm.MethodName) prog_1_method_19_code (4 : Nat) (Option.some Jvm.ClassFile.FieldType.int)) ∈ lw_all := lw_g (lw_at lw_m1 130 rfl) rfl
theorem q148 : (Jvm.Cond.methodLink "PageMerger" (91 : Nat) ({ cls := "PageMerger", name := "mixed", desc := "(II)I" } : Jvm.MethodName)) ∈ lw_all := lw_g (lw_at lw_m1 131 rfl) rfl
theorem q149 : (Jvm.Cond.static ({ cls := "PageMerger", name := "mixed", desc := "(II)I" } : Jvm.MethodName)) ∈ lw_all := lw_g (lw_at lw_m1 132 rfl) rfl
theorem q150 : (Jvm.Cond.code ({ cls := "PageMerger", name := "mixed", desc := "(II)I" } : Jvm.MethodName) prog_1_method_18_code (2 : Nat) (Option.some Jvm.ClassFile.FieldType.int)) ∈ lw_all := lw_g (lw_at lw_m1 133 rfl) rfl
theorem q151 : (Jvm.Cond.constant "PageMerger" (90 : Nat) (16777619 : Int32)) ∈ lw_all := lw_g (lw_at lw_m1 134 rfl) rfl
theorem q152 : (Jvm.Cond.methodLink "PageMerger" (97 : Nat) ({ cls := "PageMerger", name := "equalFrames", desc := "(II)Z" } : Jvm.MethodName)) ∈ lw_all := lw_g (lw_at lw_m1 135 rfl) rfl
theorem q153 : (Jvm.Cond.privateMethod ({ cls := "PageMerger", name := "equalFrames", desc := "(II)Z" } : Jvm.MethodName)) ∈ lw_tbl := lw_at lw_m1 136 rfl
theorem q154 : (Jvm.Cond.instanceMethod ({ cls := "PageMerger", name := "equalFrames", desc := "(II)Z" } : Jvm.MethodName)) ∈ lw_all := lw_g (lw_at lw_m1 137 rfl) rfl
theorem q155 : (Jvm.Cond.code ({ cls := "PageMerger", name := "equalFrames", desc := "(II)Z" } : Jvm.MethodName) prog_1_method_20_code (4 : Nat) (Option.some Jvm.ClassFile.FieldType.boolean)) ∈ lw_all := lw_g (lw_at lw_m1 138 rfl) rfl
theorem q157 : (Jvm.Cond.instanceMethod ({ cls := "PageMerger", name := "read", desc := "(II)I" } : Jvm.MethodName)) ∈ lw_all := lw_g (lw_at lw_m1 140 rfl) rfl
theorem q158 : (Jvm.Cond.selects "PageMerger" ({ cls := "PageMerger", name := "read", desc := "(II)I" } : Jvm.MethodName) ({ cls := "PageMerger", name := "read", desc := "(II)I" } : Jvm.MethodName)) ∈ lw_all := lw_g (lw_at lw_m1 141 rfl) rfl
theorem q159 : (Jvm.Cond.code ({ cls := "PageMerger", name := "read", desc := "(II)I" } : Jvm.MethodName) prog_1_method_23_code (3 : Nat) (Option.some Jvm.ClassFile.FieldType.int)) ∈ lw_all := lw_g (lw_at lw_m1 142 rfl) rfl
theorem q161 : (Jvm.Cond.instanceMethod ({ cls := "PageMerger", name := "held", desc := "(I)Z" } : Jvm.MethodName)) ∈ lw_all := lw_g (lw_at lw_m1 144 rfl) rfl
theorem q162 : (Jvm.Cond.selects "PageMerger" ({ cls := "PageMerger", name := "held", desc := "(I)Z" } : Jvm.MethodName) ({ cls := "PageMerger", name := "held", desc := "(I)Z" } : Jvm.MethodName)) ∈ lw_all := lw_g (lw_at lw_m1 145 rfl) rfl
theorem q163 : (Jvm.Cond.code ({ cls := "PageMerger", name := "held", desc := "(I)Z" } : Jvm.MethodName) prog_1_method_24_code (2 : Nat) (Option.some Jvm.ClassFile.FieldType.boolean)) ∈ lw_all := lw_g (lw_at lw_m1 146 rfl) rfl
theorem q165 : (Jvm.Cond.instanceMethod ({ cls := "PageMerger", name := "same", desc := "(II)Z" } : Jvm.MethodName)) ∈ lw_all := lw_g (lw_at lw_m1 148 rfl) rfl
theorem q166 : (Jvm.Cond.selects "PageMerger" ({ cls := "PageMerger", name := "same", desc := "(II)Z" } : Jvm.MethodName) ({ cls := "PageMerger", name := "same", desc := "(II)Z" } : Jvm.MethodName)) ∈ lw_all := lw_g (lw_at lw_m1 149 rfl) rfl
theorem q167 : (Jvm.Cond.code ({ cls := "PageMerger", name := "same", desc := "(II)Z" } : Jvm.MethodName) prog_1_method_26_code (3 : Nat) (Option.some Jvm.ClassFile.FieldType.boolean)) ∈ lw_all := lw_g (lw_at lw_m1 150 rfl) rfl
theorem q168 : (Jvm.Cond.methodLink "PageMerger" (107 : Nat) ({ cls := "PageMerger", name := "equalPages", desc := "(II)Z" } : Jvm.MethodName)) ∈ lw_all := lw_g (lw_at lw_m1 151 rfl) rfl
theorem q169 : (Jvm.Cond.privateMethod ({ cls := "PageMerger", name := "equalPages", desc := "(II)Z" } : Jvm.MethodName)) ∈ lw_tbl := lw_at lw_m1 152 rfl
theorem q170 : (Jvm.Cond.instanceMethod ({ cls := "PageMerger", name := "equalPages", desc := "(II)Z" } : Jvm.MethodName)) ∈ lw_all := lw_g (lw_at lw_m1 153 rfl) rfl
theorem q171 : (Jvm.Cond.code ({ cls := "PageMerger", name := "equalPages", desc := "(II)Z" } : Jvm.MethodName) prog_1_method_25_code (6 : Nat) (Option.some Jvm.ClassFile.FieldType.boolean)) ∈ lw_all := lw_g (lw_at lw_m1 154 rfl) rfl
theorem q173 : (Jvm.Cond.instanceMethod ({ cls := "PageMerger", name := "contents", desc := "()I" } : Jvm.MethodName)) ∈ lw_all := lw_g (lw_at lw_m1 156 rfl) rfl
theorem q174 : (Jvm.Cond.selects "PageMerger" ({ cls := "PageMerger", name := "contents", desc := "()I" } : Jvm.MethodName) ({ cls := "PageMerger", name := "contents", desc := "()I" } : Jvm.MethodName)) ∈ lw_all := lw_g (lw_at lw_m1 157 rfl) rfl
theorem q175 : (Jvm.Cond.code ({ cls := "PageMerger", name := "contents", desc := "()I" } : Jvm.MethodName) prog_1_method_28_code (3 : Nat) (Option.some Jvm.ClassFile.FieldType.int)) ∈ lw_all := lw_g (lw_at lw_m1 158 rfl) rfl
theorem q176 : (Jvm.Cond.methodLink "PageMerger" (110 : Nat) ({ cls := "PageMerger", name := "repeats", desc := "(I)Z" } : Jvm.MethodName)) ∈ lw_all := lw_g (lw_at lw_m1 159 rfl) rfl
theorem q177 : (Jvm.Cond.privateMethod ({ cls := "PageMerger", name := "repeats", desc := "(I)Z" } : Jvm.MethodName)) ∈ lw_tbl := lw_at lw_m1 160 rfl
theorem q178 : (Jvm.Cond.instanceMethod ({ cls := "PageMerger", name := "repeats", desc := "(I)Z" } : Jvm.MethodName)) ∈ lw_all := lw_g (lw_at lw_m1 161 rfl) rfl
theorem q179 : (Jvm.Cond.code ({ cls := "PageMerger", name := "repeats", desc := "(I)Z" } : Jvm.MethodName) prog_1_method_27_code (4 : Nat) (Option.some Jvm.ClassFile.FieldType.boolean)) ∈ lw_all := lw_g (lw_at lw_m1 162 rfl) rfl
theorem q181 : (Jvm.Cond.instanceMethod ({ cls := "PageMerger", name := "duplicates", desc := "()I" } : Jvm.MethodName)) ∈ lw_all := lw_g (lw_at lw_m1 164 rfl) rfl
theorem q182 : (Jvm.Cond.selects "PageMerger" ({ cls := "PageMerger", name := "duplicates", desc := "()I" } : Jvm.MethodName) ({ cls := "PageMerger", name := "duplicates", desc := "()I" } : Jvm.MethodName)) ∈ lw_all := lw_g (lw_at lw_m1 165 rfl) rfl
theorem q183 : (Jvm.Cond.code ({ cls := "PageMerger", name := "duplicates", desc := "()I" } : Jvm.MethodName) prog_1_method_29_code (3 : Nat) (Option.some Jvm.ClassFile.FieldType.int)) ∈ lw_all := lw_g (lw_at lw_m1 166 rfl) rfl
theorem q185 : (Jvm.Cond.instanceMethod ({ cls := "PageMerger", name := "sum", desc := "(I)I" } : Jvm.MethodName)) ∈ lw_all := lw_g (lw_at lw_m1 168 rfl) rfl
theorem q186 : (Jvm.Cond.selects "PageMerger" ({ cls := "PageMerger", name := "sum", desc := "(I)I" } : Jvm.MethodName) ({ cls := "PageMerger", name := "sum", desc := "(I)I" } : Jvm.MethodName)) ∈ lw_all := lw_g (lw_at lw_m1 169 rfl) rfl
theorem q187 : (Jvm.Cond.code ({ cls := "PageMerger", name := "sum", desc := "(I)I" } : Jvm.MethodName) prog_1_method_30_code (5 : Nat) (Option.some Jvm.ClassFile.FieldType.int)) ∈ lw_all := lw_g (lw_at lw_m1 170 rfl) rfl
theorem q189 : (Jvm.Cond.instanceMethod ({ cls := "PageMerger", name := "plain", desc := "()I" } : Jvm.MethodName)) ∈ lw_all := lw_g (lw_at lw_m1 172 rfl) rfl
theorem q190 : (Jvm.Cond.selects "PageMerger" ({ cls := "PageMerger", name := "plain", desc := "()I" } : Jvm.MethodName) ({ cls := "PageMerger", name := "plain", desc := "()I" } : Jvm.MethodName)) ∈ lw_all := lw_g (lw_at lw_m1 173 rfl) rfl
theorem q191 : (Jvm.Cond.code ({ cls := "PageMerger", name := "plain", desc := "()I" } : Jvm.MethodName) prog_1_method_31_code (4 : Nat) (Option.some Jvm.ClassFile.FieldType.int)) ∈ lw_all := lw_g (lw_at lw_m1 174 rfl) rfl
theorem in_X1 : ∀ w ∈ wsX10, w ∈ lw_all := lw_in wsX10 [42, 44, 46, 48, 50, 52, 54, 56, 58, 60, 62, 64, 66, 68] (by decide +kernel) (by decide +kernel)
/-! java/lang/Object -/
def RJ0 : String := "java/lang/Object"
abbrev cJ0_init : ByteArray := object_method_1_code
def yJ0_init : MethodName := ⟨RJ0, "<init>", "()V"⟩
theorem dJ0_init_0 : decode cJ0_init 0 = .ok (.return_, 1) := by decide +kernel
theorem q26 : (Jvm.Cond.instanceMethod ({ cls := "java/lang/Object", name := "<init>", desc := "()V" } : Jvm.MethodName)) ∈ lw_all := lw_g (lw_at lw_m1 9 rfl) rfl
theorem q27 : (Jvm.Cond.code ({ cls := "java/lang/Object", name := "<init>", desc := "()V" } : Jvm.MethodName) object_method_1_code (1 : Nat) (Option.none : Option Jvm.ClassFile.FieldType)) ∈ lw_all := lw_g (lw_at lw_m1 10 rfl) rfl

theorem q71 : (Jvm.Cond.arrayClass Jvm.ClassFile.FieldType.int) ∈ lw_all := lw_g (lw_at lw_m1 54 rfl) rfl
theorem q72 : (Jvm.Cond.arrayClass Jvm.ClassFile.FieldType.boolean) ∈ lw_all := lw_g (lw_at lw_m1 55 rfl) rfl
end
section
/-! PageMergerModel -/
set_option maxRecDepth 100000
def RX2 : String := "PageMergerModel"
def TX2 : u_T := fun k => match k with
  | 0 => ("PageMergerModel", "words", "[I", true)
  | _ => ("PageMergerModel", "released", "[Z", true)
def tyX2 : Nat → FieldType := fun k => match k with
  | 0 => .array .int
  | _ => .array .boolean
abbrev wsX20 : List Cond := u_ws RX2 TX2 2
theorem nmX2 : ∀ a, a < 2 → ∀ b, b < 2 → a ≠ b → (TX2 a).2.1 ≠ (TX2 b).2.1 := by decide +kernel
theorem tyX2_ok : ∀ k, k < 2 → parseFieldDescriptor (TX2 k).2.2.1 = some (tyX2 k) := by decide +kernel
abbrev cX2_init : ByteArray := prog_3_method_1_code
def yX2_init : MethodName := ⟨RX2, "<init>", "(I)V"⟩
theorem dX2_init_0 : decode cX2_init 0 = .ok (.aload_n 0, 1) := by decide +kernel
theorem dX2_init_1 : decode cX2_init 1 = .ok (.invokespecial 1, 3) := by decide +kernel
theorem dX2_init_4 : decode cX2_init 4 = .ok (.aload_n 0, 1) := by decide +kernel
theorem dX2_init_5 : decode cX2_init 5 = .ok (.bipush 96, 2) := by decide +kernel
theorem dX2_init_7 : decode cX2_init 7 = .ok (.newarray .int, 2) := by decide +kernel
theorem dX2_init_9 : decode cX2_init 9 = .ok (.putfield 7, 3) := by decide +kernel
theorem dX2_init_12 : decode cX2_init 12 = .ok (.aload_n 0, 1) := by decide +kernel
theorem dX2_init_13 : decode cX2_init 13 = .ok (.bipush 24, 2) := by decide +kernel
theorem dX2_init_15 : decode cX2_init 15 = .ok (.newarray .boolean, 2) := by decide +kernel
theorem dX2_init_17 : decode cX2_init 17 = .ok (.putfield 13, 3) := by decide +kernel
theorem dX2_init_20 : decode cX2_init 20 = .ok (.return_, 1) := by decide +kernel
abbrev cX2_write : ByteArray := prog_3_method_3_code
def yX2_write : MethodName := ⟨RX2, "write", "(III)I"⟩
theorem dX2_write_0 : decode cX2_write 0 = .ok (.aload_n 0, 1) := by decide +kernel
theorem dX2_write_1 : decode cX2_write 1 = .ok (.iload_n 1, 1) := by decide +kernel
theorem dX2_write_2 : decode cX2_write 2 = .ok (.invokevirtual 17, 3) := by decide +kernel
theorem dX2_write_5 : decode cX2_write 5 = .ok (.ifCond .ne 5, 3) := by decide +kernel
theorem dX2_write_8 : decode cX2_write 8 = .ok (.iconst (-1), 1) := by decide +kernel
theorem dX2_write_9 : decode cX2_write 9 = .ok (.ireturn, 1) := by decide +kernel
theorem dX2_write_10 : decode cX2_write 10 = .ok (.iload_n 2, 1) := by decide +kernel
theorem dX2_write_11 : decode cX2_write 11 = .ok (.ifCond .lt 8, 3) := by decide +kernel
theorem dX2_write_14 : decode cX2_write 14 = .ok (.iload_n 2, 1) := by decide +kernel
theorem dX2_write_15 : decode cX2_write 15 = .ok (.iconst 3, 1) := by decide +kernel
theorem dX2_write_16 : decode cX2_write 16 = .ok (.if_icmp .le 6, 3) := by decide +kernel
theorem dX2_write_19 : decode cX2_write 19 = .ok (.bipush (-2), 2) := by decide +kernel
theorem dX2_write_21 : decode cX2_write 21 = .ok (.ireturn, 1) := by decide +kernel
theorem dX2_write_22 : decode cX2_write 22 = .ok (.aload_n 0, 1) := by decide +kernel
theorem dX2_write_23 : decode cX2_write 23 = .ok (.getfield 7, 3) := by decide +kernel
theorem dX2_write_26 : decode cX2_write 26 = .ok (.iload_n 1, 1) := by decide +kernel
theorem dX2_write_27 : decode cX2_write 27 = .ok (.iconst 4, 1) := by decide +kernel
theorem dX2_write_28 : decode cX2_write 28 = .ok (.imul, 1) := by decide +kernel
theorem dX2_write_29 : decode cX2_write 29 = .ok (.iload_n 2, 1) := by decide +kernel
theorem dX2_write_30 : decode cX2_write 30 = .ok (.iadd, 1) := by decide +kernel
theorem dX2_write_31 : decode cX2_write 31 = .ok (.iaload, 1) := by decide +kernel
theorem dX2_write_32 : decode cX2_write 32 = .ok (.istore 4, 2) := by decide +kernel
theorem dX2_write_34 : decode cX2_write 34 = .ok (.aload_n 0, 1) := by decide +kernel
theorem dX2_write_35 : decode cX2_write 35 = .ok (.getfield 7, 3) := by decide +kernel
theorem dX2_write_38 : decode cX2_write 38 = .ok (.iload_n 1, 1) := by decide +kernel
theorem dX2_write_39 : decode cX2_write 39 = .ok (.iconst 4, 1) := by decide +kernel
theorem dX2_write_40 : decode cX2_write 40 = .ok (.imul, 1) := by decide +kernel
theorem dX2_write_41 : decode cX2_write 41 = .ok (.iload_n 2, 1) := by decide +kernel
theorem dX2_write_42 : decode cX2_write 42 = .ok (.iadd, 1) := by decide +kernel
theorem dX2_write_43 : decode cX2_write 43 = .ok (.iload_n 3, 1) := by decide +kernel
theorem dX2_write_44 : decode cX2_write 44 = .ok (.iastore, 1) := by decide +kernel
theorem dX2_write_45 : decode cX2_write 45 = .ok (.aload_n 0, 1) := by decide +kernel
theorem dX2_write_46 : decode cX2_write 46 = .ok (.getfield 13, 3) := by decide +kernel
theorem dX2_write_49 : decode cX2_write 49 = .ok (.iload_n 1, 1) := by decide +kernel
theorem dX2_write_50 : decode cX2_write 50 = .ok (.iconst 0, 1) := by decide +kernel
theorem dX2_write_51 : decode cX2_write 51 = .ok (.bastore, 1) := by decide +kernel
theorem dX2_write_52 : decode cX2_write 52 = .ok (.iload 4, 2) := by decide +kernel
theorem dX2_write_54 : decode cX2_write 54 = .ok (.ireturn, 1) := by decide +kernel
abbrev cX2_isPage : ByteArray := prog_3_method_2_code
def yX2_isPage : MethodName := ⟨RX2, "isPage", "(I)Z"⟩
theorem dX2_isPage_0 : decode cX2_isPage 0 = .ok (.iload_n 1, 1) := by decide +kernel
theorem dX2_isPage_1 : decode cX2_isPage 1 = .ok (.ifCond .lt 13, 3) := by decide +kernel
theorem dX2_isPage_4 : decode cX2_isPage 4 = .ok (.iload_n 1, 1) := by decide +kernel
theorem dX2_isPage_5 : decode cX2_isPage 5 = .ok (.bipush 24, 2) := by decide +kernel
theorem dX2_isPage_7 : decode cX2_isPage 7 = .ok (.if_icmp .ge 7, 3) := by decide +kernel
theorem dX2_isPage_10 : decode cX2_isPage 10 = .ok (.iconst 1, 1) := by decide +kernel
theorem dX2_isPage_11 : decode cX2_isPage 11 = .ok (.goto 4, 3) := by decide +kernel
theorem dX2_isPage_14 : decode cX2_isPage 14 = .ok (.iconst 0, 1) := by decide +kernel
theorem dX2_isPage_15 : decode cX2_isPage 15 = .ok (.ireturn, 1) := by decide +kernel
abbrev cX2_fill : ByteArray := prog_3_method_4_code
def yX2_fill : MethodName := ⟨RX2, "fill", "(II)I"⟩
theorem dX2_fill_0 : decode cX2_fill 0 = .ok (.aload_n 0, 1) := by decide +kernel
theorem dX2_fill_1 : decode cX2_fill 1 = .ok (.iload_n 1, 1) := by decide +kernel
theorem dX2_fill_2 : decode cX2_fill 2 = .ok (.invokevirtual 17, 3) := by decide +kernel
theorem dX2_fill_5 : decode cX2_fill 5 = .ok (.ifCond .ne 5, 3) := by decide +kernel
theorem dX2_fill_8 : decode cX2_fill 8 = .ok (.iconst (-1), 1) := by decide +kernel
theorem dX2_fill_9 : decode cX2_fill 9 = .ok (.ireturn, 1) := by decide +kernel
theorem dX2_fill_10 : decode cX2_fill 10 = .ok (.iconst 0, 1) := by decide +kernel
theorem dX2_fill_11 : decode cX2_fill 11 = .ok (.istore_n 3, 1) := by decide +kernel
theorem dX2_fill_12 : decode cX2_fill 12 = .ok (.iload_n 3, 1) := by decide +kernel
theorem dX2_fill_13 : decode cX2_fill 13 = .ok (.iconst 4, 1) := by decide +kernel
theorem dX2_fill_14 : decode cX2_fill 14 = .ok (.if_icmp .ge 20, 3) := by decide +kernel
theorem dX2_fill_17 : decode cX2_fill 17 = .ok (.aload_n 0, 1) := by decide +kernel
theorem dX2_fill_18 : decode cX2_fill 18 = .ok (.getfield 7, 3) := by decide +kernel
theorem dX2_fill_21 : decode cX2_fill 21 = .ok (.iload_n 1, 1) := by decide +kernel
theorem dX2_fill_22 : decode cX2_fill 22 = .ok (.iconst 4, 1) := by decide +kernel
theorem dX2_fill_23 : decode cX2_fill 23 = .ok (.imul, 1) := by decide +kernel
theorem dX2_fill_24 : decode cX2_fill 24 = .ok (.iload_n 3, 1) := by decide +kernel
theorem dX2_fill_25 : decode cX2_fill 25 = .ok (.iadd, 1) := by decide +kernel
theorem dX2_fill_26 : decode cX2_fill 26 = .ok (.iload_n 2, 1) := by decide +kernel
theorem dX2_fill_27 : decode cX2_fill 27 = .ok (.iastore, 1) := by decide +kernel
theorem dX2_fill_28 : decode cX2_fill 28 = .ok (.iinc 3 1, 3) := by decide +kernel
theorem dX2_fill_31 : decode cX2_fill 31 = .ok (.goto (-19), 3) := by decide +kernel
theorem dX2_fill_34 : decode cX2_fill 34 = .ok (.aload_n 0, 1) := by decide +kernel
theorem dX2_fill_35 : decode cX2_fill 35 = .ok (.getfield 13, 3) := by decide +kernel
theorem dX2_fill_38 : decode cX2_fill 38 = .ok (.iload_n 1, 1) := by decide +kernel
theorem dX2_fill_39 : decode cX2_fill 39 = .ok (.iconst 0, 1) := by decide +kernel
theorem dX2_fill_40 : decode cX2_fill 40 = .ok (.bastore, 1) := by decide +kernel
theorem dX2_fill_41 : decode cX2_fill 41 = .ok (.iconst 0, 1) := by decide +kernel
theorem dX2_fill_42 : decode cX2_fill 42 = .ok (.ireturn, 1) := by decide +kernel
abbrev cX2_copy : ByteArray := prog_3_method_5_code
def yX2_copy : MethodName := ⟨RX2, "copy", "(II)I"⟩
theorem dX2_copy_0 : decode cX2_copy 0 = .ok (.aload_n 0, 1) := by decide +kernel
theorem dX2_copy_1 : decode cX2_copy 1 = .ok (.iload_n 1, 1) := by decide +kernel
theorem dX2_copy_2 : decode cX2_copy 2 = .ok (.invokevirtual 17, 3) := by decide +kernel
theorem dX2_copy_5 : decode cX2_copy 5 = .ok (.ifCond .eq 11, 3) := by decide +kernel
theorem dX2_copy_8 : decode cX2_copy 8 = .ok (.aload_n 0, 1) := by decide +kernel
theorem dX2_copy_9 : decode cX2_copy 9 = .ok (.iload_n 2, 1) := by decide +kernel
theorem dX2_copy_10 : decode cX2_copy 10 = .ok (.invokevirtual 17, 3) := by decide +kernel
theorem dX2_copy_13 : decode cX2_copy 13 = .ok (.ifCond .ne 5, 3) := by decide +kernel
theorem dX2_copy_16 : decode cX2_copy 16 = .ok (.iconst (-1), 1) := by decide +kernel
theorem dX2_copy_17 : decode cX2_copy 17 = .ok (.ireturn, 1) := by decide +kernel
theorem dX2_copy_18 : decode cX2_copy 18 = .ok (.iconst 0, 1) := by decide +kernel
theorem dX2_copy_19 : decode cX2_copy 19 = .ok (.istore_n 3, 1) := by decide +kernel
theorem dX2_copy_20 : decode cX2_copy 20 = .ok (.iload_n 3, 1) := by decide +kernel
theorem dX2_copy_21 : decode cX2_copy 21 = .ok (.iconst 4, 1) := by decide +kernel
theorem dX2_copy_22 : decode cX2_copy 22 = .ok (.if_icmp .ge 29, 3) := by decide +kernel
theorem dX2_copy_25 : decode cX2_copy 25 = .ok (.aload_n 0, 1) := by decide +kernel
theorem dX2_copy_26 : decode cX2_copy 26 = .ok (.getfield 7, 3) := by decide +kernel
theorem dX2_copy_29 : decode cX2_copy 29 = .ok (.iload_n 2, 1) := by decide +kernel
theorem dX2_copy_30 : decode cX2_copy 30 = .ok (.iconst 4, 1) := by decide +kernel
theorem dX2_copy_31 : decode cX2_copy 31 = .ok (.imul, 1) := by decide +kernel
theorem dX2_copy_32 : decode cX2_copy 32 = .ok (.iload_n 3, 1) := by decide +kernel
theorem dX2_copy_33 : decode cX2_copy 33 = .ok (.iadd, 1) := by decide +kernel
theorem dX2_copy_34 : decode cX2_copy 34 = .ok (.aload_n 0, 1) := by decide +kernel
theorem dX2_copy_35 : decode cX2_copy 35 = .ok (.getfield 7, 3) := by decide +kernel
theorem dX2_copy_38 : decode cX2_copy 38 = .ok (.iload_n 1, 1) := by decide +kernel
theorem dX2_copy_39 : decode cX2_copy 39 = .ok (.iconst 4, 1) := by decide +kernel
theorem dX2_copy_40 : decode cX2_copy 40 = .ok (.imul, 1) := by decide +kernel
theorem dX2_copy_41 : decode cX2_copy 41 = .ok (.iload_n 3, 1) := by decide +kernel
theorem dX2_copy_42 : decode cX2_copy 42 = .ok (.iadd, 1) := by decide +kernel
theorem dX2_copy_43 : decode cX2_copy 43 = .ok (.iaload, 1) := by decide +kernel
theorem dX2_copy_44 : decode cX2_copy 44 = .ok (.iastore, 1) := by decide +kernel
theorem dX2_copy_45 : decode cX2_copy 45 = .ok (.iinc 3 1, 3) := by decide +kernel
theorem dX2_copy_48 : decode cX2_copy 48 = .ok (.goto (-28), 3) := by decide +kernel
theorem dX2_copy_51 : decode cX2_copy 51 = .ok (.aload_n 0, 1) := by decide +kernel
theorem dX2_copy_52 : decode cX2_copy 52 = .ok (.getfield 13, 3) := by decide +kernel
theorem dX2_copy_55 : decode cX2_copy 55 = .ok (.iload_n 2, 1) := by decide +kernel
theorem dX2_copy_56 : decode cX2_copy 56 = .ok (.aload_n 0, 1) := by decide +kernel
theorem dX2_copy_57 : decode cX2_copy 57 = .ok (.getfield 13, 3) := by decide +kernel
theorem dX2_copy_60 : decode cX2_copy 60 = .ok (.iload_n 1, 1) := by decide +kernel
theorem dX2_copy_61 : decode cX2_copy 61 = .ok (.baload, 1) := by decide +kernel
theorem dX2_copy_62 : decode cX2_copy 62 = .ok (.bastore, 1) := by decide +kernel
theorem dX2_copy_63 : decode cX2_copy 63 = .ok (.iconst 0, 1) := by decide +kernel
theorem dX2_copy_64 : decode cX2_copy 64 = .ok (.ireturn, 1) := by decide +kernel
abbrev cX2_swap : ByteArray := prog_3_method_6_code
def yX2_swap : MethodName := ⟨RX2, "swap", "(II)I"⟩
theorem dX2_swap_0 : decode cX2_swap 0 = .ok (.aload_n 0, 1) := by decide +kernel
theorem dX2_swap_1 : decode cX2_swap 1 = .ok (.iload_n 1, 1) := by decide +kernel
theorem dX2_swap_2 : decode cX2_swap 2 = .ok (.invokevirtual 17, 3) := by decide +kernel
theorem dX2_swap_5 : decode cX2_swap 5 = .ok (.ifCond .eq 11, 3) := by decide +kernel
theorem dX2_swap_8 : decode cX2_swap 8 = .ok (.aload_n 0, 1) := by decide +kernel
theorem dX2_swap_9 : decode cX2_swap 9 = .ok (.iload_n 2, 1) := by decide +kernel
theorem dX2_swap_10 : decode cX2_swap 10 = .ok (.invokevirtual 17, 3) := by decide +kernel
theorem dX2_swap_13 : decode cX2_swap 13 = .ok (.ifCond .ne 5, 3) := by decide +kernel
theorem dX2_swap_16 : decode cX2_swap 16 = .ok (.iconst (-1), 1) := by decide +kernel
theorem dX2_swap_17 : decode cX2_swap 17 = .ok (.ireturn, 1) := by decide +kernel
theorem dX2_swap_18 : decode cX2_swap 18 = .ok (.iconst 0, 1) := by decide +kernel
theorem dX2_swap_19 : decode cX2_swap 19 = .ok (.istore_n 3, 1) := by decide +kernel
theorem dX2_swap_20 : decode cX2_swap 20 = .ok (.iload_n 3, 1) := by decide +kernel
theorem dX2_swap_21 : decode cX2_swap 21 = .ok (.iconst 4, 1) := by decide +kernel
theorem dX2_swap_22 : decode cX2_swap 22 = .ok (.if_icmp .ge 53, 3) := by decide +kernel
theorem dX2_swap_25 : decode cX2_swap 25 = .ok (.aload_n 0, 1) := by decide +kernel
theorem dX2_swap_26 : decode cX2_swap 26 = .ok (.getfield 7, 3) := by decide +kernel
theorem dX2_swap_29 : decode cX2_swap 29 = .ok (.iload_n 1, 1) := by decide +kernel
theorem dX2_swap_30 : decode cX2_swap 30 = .ok (.iconst 4, 1) := by decide +kernel
theorem dX2_swap_31 : decode cX2_swap 31 = .ok (.imul, 1) := by decide +kernel
theorem dX2_swap_32 : decode cX2_swap 32 = .ok (.iload_n 3, 1) := by decide +kernel
theorem dX2_swap_33 : decode cX2_swap 33 = .ok (.iadd, 1) := by decide +kernel
theorem dX2_swap_34 : decode cX2_swap 34 = .ok (.iaload, 1) := by decide +kernel
theorem dX2_swap_35 : decode cX2_swap 35 = .ok (.istore 4, 2) := by decide +kernel
theorem dX2_swap_37 : decode cX2_swap 37 = .ok (.aload_n 0, 1) := by decide +kernel
theorem dX2_swap_38 : decode cX2_swap 38 = .ok (.getfield 7, 3) := by decide +kernel
theorem dX2_swap_41 : decode cX2_swap 41 = .ok (.iload_n 1, 1) := by decide +kernel
theorem dX2_swap_42 : decode cX2_swap 42 = .ok (.iconst 4, 1) := by decide +kernel
theorem dX2_swap_43 : decode cX2_swap 43 = .ok (.imul, 1) := by decide +kernel
theorem dX2_swap_44 : decode cX2_swap 44 = .ok (.iload_n 3, 1) := by decide +kernel
theorem dX2_swap_45 : decode cX2_swap 45 = .ok (.iadd, 1) := by decide +kernel
theorem dX2_swap_46 : decode cX2_swap 46 = .ok (.aload_n 0, 1) := by decide +kernel
theorem dX2_swap_47 : decode cX2_swap 47 = .ok (.getfield 7, 3) := by decide +kernel
theorem dX2_swap_50 : decode cX2_swap 50 = .ok (.iload_n 2, 1) := by decide +kernel
theorem dX2_swap_51 : decode cX2_swap 51 = .ok (.iconst 4, 1) := by decide +kernel
theorem dX2_swap_52 : decode cX2_swap 52 = .ok (.imul, 1) := by decide +kernel
theorem dX2_swap_53 : decode cX2_swap 53 = .ok (.iload_n 3, 1) := by decide +kernel
theorem dX2_swap_54 : decode cX2_swap 54 = .ok (.iadd, 1) := by decide +kernel
theorem dX2_swap_55 : decode cX2_swap 55 = .ok (.iaload, 1) := by decide +kernel
theorem dX2_swap_56 : decode cX2_swap 56 = .ok (.iastore, 1) := by decide +kernel
theorem dX2_swap_57 : decode cX2_swap 57 = .ok (.aload_n 0, 1) := by decide +kernel
theorem dX2_swap_58 : decode cX2_swap 58 = .ok (.getfield 7, 3) := by decide +kernel
theorem dX2_swap_61 : decode cX2_swap 61 = .ok (.iload_n 2, 1) := by decide +kernel
theorem dX2_swap_62 : decode cX2_swap 62 = .ok (.iconst 4, 1) := by decide +kernel
theorem dX2_swap_63 : decode cX2_swap 63 = .ok (.imul, 1) := by decide +kernel
theorem dX2_swap_64 : decode cX2_swap 64 = .ok (.iload_n 3, 1) := by decide +kernel
theorem dX2_swap_65 : decode cX2_swap 65 = .ok (.iadd, 1) := by decide +kernel
theorem dX2_swap_66 : decode cX2_swap 66 = .ok (.iload 4, 2) := by decide +kernel
theorem dX2_swap_68 : decode cX2_swap 68 = .ok (.iastore, 1) := by decide +kernel
theorem dX2_swap_69 : decode cX2_swap 69 = .ok (.iinc 3 1, 3) := by decide +kernel
theorem dX2_swap_72 : decode cX2_swap 72 = .ok (.goto (-52), 3) := by decide +kernel
theorem dX2_swap_75 : decode cX2_swap 75 = .ok (.aload_n 0, 1) := by decide +kernel
theorem dX2_swap_76 : decode cX2_swap 76 = .ok (.getfield 13, 3) := by decide +kernel
theorem dX2_swap_79 : decode cX2_swap 79 = .ok (.iload_n 1, 1) := by decide +kernel
theorem dX2_swap_80 : decode cX2_swap 80 = .ok (.baload, 1) := by decide +kernel
theorem dX2_swap_81 : decode cX2_swap 81 = .ok (.istore_n 3, 1) := by decide +kernel
theorem dX2_swap_82 : decode cX2_swap 82 = .ok (.aload_n 0, 1) := by decide +kernel
theorem dX2_swap_83 : decode cX2_swap 83 = .ok (.getfield 13, 3) := by decide +kernel
theorem dX2_swap_86 : decode cX2_swap 86 = .ok (.iload_n 1, 1) := by decide +kernel
theorem dX2_swap_87 : decode cX2_swap 87 = .ok (.aload_n 0, 1) := by decide +kernel
theorem dX2_swap_88 : decode cX2_swap 88 = .ok (.getfield 13, 3) := by decide +kernel
theorem dX2_swap_91 : decode cX2_swap 91 = .ok (.iload_n 2, 1) := by decide +kernel
theorem dX2_swap_92 : decode cX2_swap 92 = .ok (.baload, 1) := by decide +kernel
theorem dX2_swap_93 : decode cX2_swap 93 = .ok (.bastore, 1) := by decide +kernel
theorem dX2_swap_94 : decode cX2_swap 94 = .ok (.aload_n 0, 1) := by decide +kernel
theorem dX2_swap_95 : decode cX2_swap 95 = .ok (.getfield 13, 3) := by decide +kernel
theorem dX2_swap_98 : decode cX2_swap 98 = .ok (.iload_n 2, 1) := by decide +kernel
theorem dX2_swap_99 : decode cX2_swap 99 = .ok (.iload_n 3, 1) := by decide +kernel
theorem dX2_swap_100 : decode cX2_swap 100 = .ok (.bastore, 1) := by decide +kernel
theorem dX2_swap_101 : decode cX2_swap 101 = .ok (.iconst 0, 1) := by decide +kernel
theorem dX2_swap_102 : decode cX2_swap 102 = .ok (.ireturn, 1) := by decide +kernel
abbrev cX2_release : ByteArray := prog_3_method_7_code
def yX2_release : MethodName := ⟨RX2, "release", "(I)I"⟩
theorem dX2_release_0 : decode cX2_release 0 = .ok (.aload_n 0, 1) := by decide +kernel
theorem dX2_release_1 : decode cX2_release 1 = .ok (.iload_n 1, 1) := by decide +kernel
theorem dX2_release_2 : decode cX2_release 2 = .ok (.invokevirtual 17, 3) := by decide +kernel
theorem dX2_release_5 : decode cX2_release 5 = .ok (.ifCond .ne 5, 3) := by decide +kernel
theorem dX2_release_8 : decode cX2_release 8 = .ok (.iconst (-1), 1) := by decide +kernel
theorem dX2_release_9 : decode cX2_release 9 = .ok (.ireturn, 1) := by decide +kernel
theorem dX2_release_10 : decode cX2_release 10 = .ok (.aload_n 0, 1) := by decide +kernel
theorem dX2_release_11 : decode cX2_release 11 = .ok (.getfield 13, 3) := by decide +kernel
theorem dX2_release_14 : decode cX2_release 14 = .ok (.iload_n 1, 1) := by decide +kernel
theorem dX2_release_15 : decode cX2_release 15 = .ok (.baload, 1) := by decide +kernel
theorem dX2_release_16 : decode cX2_release 16 = .ok (.ifCond .eq 6, 3) := by decide +kernel
theorem dX2_release_19 : decode cX2_release 19 = .ok (.bipush (-3), 2) := by decide +kernel
theorem dX2_release_21 : decode cX2_release 21 = .ok (.ireturn, 1) := by decide +kernel
theorem dX2_release_22 : decode cX2_release 22 = .ok (.aload_n 0, 1) := by decide +kernel
theorem dX2_release_23 : decode cX2_release 23 = .ok (.iload_n 1, 1) := by decide +kernel
theorem dX2_release_24 : decode cX2_release 24 = .ok (.iconst 0, 1) := by decide +kernel
theorem dX2_release_25 : decode cX2_release 25 = .ok (.invokevirtual 21, 3) := by decide +kernel
theorem dX2_release_28 : decode cX2_release 28 = .ok (.pop, 1) := by decide +kernel
theorem dX2_release_29 : decode cX2_release 29 = .ok (.aload_n 0, 1) := by decide +kernel
theorem dX2_release_30 : decode cX2_release 30 = .ok (.getfield 13, 3) := by decide +kernel
theorem dX2_release_33 : decode cX2_release 33 = .ok (.iload_n 1, 1) := by decide +kernel
theorem dX2_release_34 : decode cX2_release 34 = .ok (.iconst 1, 1) := by decide +kernel
theorem dX2_release_35 : decode cX2_release 35 = .ok (.bastore, 1) := by decide +kernel
theorem dX2_release_36 : decode cX2_release 36 = .ok (.iconst 0, 1) := by decide +kernel
theorem dX2_release_37 : decode cX2_release 37 = .ok (.ireturn, 1) := by decide +kernel
abbrev cX2_scan : ByteArray := prog_3_method_8_code
def yX2_scan : MethodName := ⟨RX2, "scan", "(I)V"⟩
theorem dX2_scan_0 : decode cX2_scan 0 = .ok (.return_, 1) := by decide +kernel
abbrev cX2_read : ByteArray := prog_3_method_9_code
def yX2_read : MethodName := ⟨RX2, "read", "(II)I"⟩
theorem dX2_read_0 : decode cX2_read 0 = .ok (.aload_n 0, 1) := by decide +kernel
theorem dX2_read_1 : decode cX2_read 1 = .ok (.iload_n 1, 1) := by decide +kernel
theorem dX2_read_2 : decode cX2_read 2 = .ok (.invokevirtual 17, 3) := by decide +kernel
theorem dX2_read_5 : decode cX2_read 5 = .ok (.ifCond .ne 5, 3) := by decide +kernel
theorem dX2_read_8 : decode cX2_read 8 = .ok (.iconst (-1), 1) := by decide +kernel
theorem dX2_read_9 : decode cX2_read 9 = .ok (.ireturn, 1) := by decide +kernel
theorem dX2_read_10 : decode cX2_read 10 = .ok (.iload_n 2, 1) := by decide +kernel
theorem dX2_read_11 : decode cX2_read 11 = .ok (.ifCond .lt 8, 3) := by decide +kernel
theorem dX2_read_14 : decode cX2_read 14 = .ok (.iload_n 2, 1) := by decide +kernel
theorem dX2_read_15 : decode cX2_read 15 = .ok (.iconst 3, 1) := by decide +kernel
theorem dX2_read_16 : decode cX2_read 16 = .ok (.if_icmp .le 8, 3) := by decide +kernel
theorem dX2_read_19 : decode cX2_read 19 = .ok (.bipush (-2), 2) := by decide +kernel
theorem dX2_read_21 : decode cX2_read 21 = .ok (.goto 13, 3) := by decide +kernel
theorem dX2_read_24 : decode cX2_read 24 = .ok (.aload_n 0, 1) := by decide +kernel
theorem dX2_read_25 : decode cX2_read 25 = .ok (.getfield 7, 3) := by decide +kernel
theorem dX2_read_28 : decode cX2_read 28 = .ok (.iload_n 1, 1) := by decide +kernel
theorem dX2_read_29 : decode cX2_read 29 = .ok (.iconst 4, 1) := by decide +kernel
theorem dX2_read_30 : decode cX2_read 30 = .ok (.imul, 1) := by decide +kernel
theorem dX2_read_31 : decode cX2_read 31 = .ok (.iload_n 2, 1) := by decide +kernel
theorem dX2_read_32 : decode cX2_read 32 = .ok (.iadd, 1) := by decide +kernel
theorem dX2_read_33 : decode cX2_read 33 = .ok (.iaload, 1) := by decide +kernel
theorem dX2_read_34 : decode cX2_read 34 = .ok (.ireturn, 1) := by decide +kernel
abbrev cX2_held : ByteArray := prog_3_method_10_code
def yX2_held : MethodName := ⟨RX2, "held", "(I)Z"⟩
theorem dX2_held_0 : decode cX2_held 0 = .ok (.aload_n 0, 1) := by decide +kernel
theorem dX2_held_1 : decode cX2_held 1 = .ok (.iload_n 1, 1) := by decide +kernel
theorem dX2_held_2 : decode cX2_held 2 = .ok (.invokevirtual 17, 3) := by decide +kernel
theorem dX2_held_5 : decode cX2_held 5 = .ok (.ifCond .eq 16, 3) := by decide +kernel
theorem dX2_held_8 : decode cX2_held 8 = .ok (.aload_n 0, 1) := by decide +kernel
theorem dX2_held_9 : decode cX2_held 9 = .ok (.getfield 13, 3) := by decide +kernel
theorem dX2_held_12 : decode cX2_held 12 = .ok (.iload_n 1, 1) := by decide +kernel
theorem dX2_held_13 : decode cX2_held 13 = .ok (.baload, 1) := by decide +kernel
theorem dX2_held_14 : decode cX2_held 14 = .ok (.ifCond .ne 7, 3) := by decide +kernel
theorem dX2_held_17 : decode cX2_held 17 = .ok (.iconst 1, 1) := by decide +kernel
theorem dX2_held_18 : decode cX2_held 18 = .ok (.goto 4, 3) := by decide +kernel
theorem dX2_held_21 : decode cX2_held 21 = .ok (.iconst 0, 1) := by decide +kernel
theorem dX2_held_22 : decode cX2_held 22 = .ok (.ireturn, 1) := by decide +kernel
abbrev cX2_same : ByteArray := prog_3_method_11_code
def yX2_same : MethodName := ⟨RX2, "same", "(II)Z"⟩
theorem dX2_same_0 : decode cX2_same 0 = .ok (.aload_n 0, 1) := by decide +kernel
theorem dX2_same_1 : decode cX2_same 1 = .ok (.iload_n 1, 1) := by decide +kernel
theorem dX2_same_2 : decode cX2_same 2 = .ok (.invokevirtual 17, 3) := by decide +kernel
theorem dX2_same_5 : decode cX2_same 5 = .ok (.ifCond .eq 11, 3) := by decide +kernel
theorem dX2_same_8 : decode cX2_same 8 = .ok (.aload_n 0, 1) := by decide +kernel
theorem dX2_same_9 : decode cX2_same 9 = .ok (.iload_n 2, 1) := by decide +kernel
theorem dX2_same_10 : decode cX2_same 10 = .ok (.invokevirtual 17, 3) := by decide +kernel
theorem dX2_same_13 : decode cX2_same 13 = .ok (.ifCond .ne 5, 3) := by decide +kernel
theorem dX2_same_16 : decode cX2_same 16 = .ok (.iconst 0, 1) := by decide +kernel
theorem dX2_same_17 : decode cX2_same 17 = .ok (.ireturn, 1) := by decide +kernel
theorem dX2_same_18 : decode cX2_same 18 = .ok (.iconst 0, 1) := by decide +kernel
theorem dX2_same_19 : decode cX2_same 19 = .ok (.istore_n 3, 1) := by decide +kernel
theorem dX2_same_20 : decode cX2_same 20 = .ok (.iload_n 3, 1) := by decide +kernel
theorem dX2_same_21 : decode cX2_same 21 = .ok (.iconst 4, 1) := by decide +kernel
theorem dX2_same_22 : decode cX2_same 22 = .ok (.if_icmp .ge 34, 3) := by decide +kernel
theorem dX2_same_25 : decode cX2_same 25 = .ok (.aload_n 0, 1) := by decide +kernel
theorem dX2_same_26 : decode cX2_same 26 = .ok (.getfield 7, 3) := by decide +kernel
theorem dX2_same_29 : decode cX2_same 29 = .ok (.iload_n 1, 1) := by decide +kernel
theorem dX2_same_30 : decode cX2_same 30 = .ok (.iconst 4, 1) := by decide +kernel
theorem dX2_same_31 : decode cX2_same 31 = .ok (.imul, 1) := by decide +kernel
theorem dX2_same_32 : decode cX2_same 32 = .ok (.iload_n 3, 1) := by decide +kernel
theorem dX2_same_33 : decode cX2_same 33 = .ok (.iadd, 1) := by decide +kernel
theorem dX2_same_34 : decode cX2_same 34 = .ok (.iaload, 1) := by decide +kernel
theorem dX2_same_35 : decode cX2_same 35 = .ok (.aload_n 0, 1) := by decide +kernel
theorem dX2_same_36 : decode cX2_same 36 = .ok (.getfield 7, 3) := by decide +kernel
theorem dX2_same_39 : decode cX2_same 39 = .ok (.iload_n 2, 1) := by decide +kernel
theorem dX2_same_40 : decode cX2_same 40 = .ok (.iconst 4, 1) := by decide +kernel
theorem dX2_same_41 : decode cX2_same 41 = .ok (.imul, 1) := by decide +kernel
theorem dX2_same_42 : decode cX2_same 42 = .ok (.iload_n 3, 1) := by decide +kernel
theorem dX2_same_43 : decode cX2_same 43 = .ok (.iadd, 1) := by decide +kernel
theorem dX2_same_44 : decode cX2_same 44 = .ok (.iaload, 1) := by decide +kernel
theorem dX2_same_45 : decode cX2_same 45 = .ok (.if_icmp .eq 5, 3) := by decide +kernel
theorem dX2_same_48 : decode cX2_same 48 = .ok (.iconst 0, 1) := by decide +kernel
theorem dX2_same_49 : decode cX2_same 49 = .ok (.ireturn, 1) := by decide +kernel
theorem dX2_same_50 : decode cX2_same 50 = .ok (.iinc 3 1, 3) := by decide +kernel
theorem dX2_same_53 : decode cX2_same 53 = .ok (.goto (-33), 3) := by decide +kernel
theorem dX2_same_56 : decode cX2_same 56 = .ok (.iconst 1, 1) := by decide +kernel
theorem dX2_same_57 : decode cX2_same 57 = .ok (.ireturn, 1) := by decide +kernel
abbrev cX2_contents : ByteArray := prog_3_method_13_code
def yX2_contents : MethodName := ⟨RX2, "contents", "()I"⟩
theorem dX2_contents_0 : decode cX2_contents 0 = .ok (.iconst 0, 1) := by decide +kernel
theorem dX2_contents_1 : decode cX2_contents 1 = .ok (.istore_n 1, 1) := by decide +kernel
theorem dX2_contents_2 : decode cX2_contents 2 = .ok (.iconst 0, 1) := by decide +kernel
theorem dX2_contents_3 : decode cX2_contents 3 = .ok (.istore_n 2, 1) := by decide +kernel
theorem dX2_contents_4 : decode cX2_contents 4 = .ok (.iload_n 2, 1) := by decide +kernel
theorem dX2_contents_5 : decode cX2_contents 5 = .ok (.bipush 24, 2) := by decide +kernel
theorem dX2_contents_7 : decode cX2_contents 7 = .ok (.if_icmp .ge 28, 3) := by decide +kernel
theorem dX2_contents_10 : decode cX2_contents 10 = .ok (.aload_n 0, 1) := by decide +kernel
theorem dX2_contents_11 : decode cX2_contents 11 = .ok (.iload_n 2, 1) := by decide +kernel
theorem dX2_contents_12 : decode cX2_contents 12 = .ok (.invokevirtual 25, 3) := by decide +kernel
theorem dX2_contents_15 : decode cX2_contents 15 = .ok (.ifCond .eq 14, 3) := by decide +kernel
theorem dX2_contents_18 : decode cX2_contents 18 = .ok (.aload_n 0, 1) := by decide +kernel
theorem dX2_contents_19 : decode cX2_contents 19 = .ok (.iload_n 2, 1) := by decide +kernel
theorem dX2_contents_20 : decode cX2_contents 20 = .ok (.invokevirtual 32, 3) := by decide +kernel
theorem dX2_contents_23 : decode cX2_contents 23 = .ok (.ifCond .ne 6, 3) := by decide +kernel
theorem dX2_contents_26 : decode cX2_contents 26 = .ok (.iinc 1 1, 3) := by decide +kernel
theorem dX2_contents_29 : decode cX2_contents 29 = .ok (.iinc 2 1, 3) := by decide +kernel
theorem dX2_contents_32 : decode cX2_contents 32 = .ok (.goto (-28), 3) := by decide +kernel
theorem dX2_contents_35 : decode cX2_contents 35 = .ok (.iload_n 1, 1) := by decide +kernel
theorem dX2_contents_36 : decode cX2_contents 36 = .ok (.ireturn, 1) := by decide +kernel
abbrev cX2_again : ByteArray := prog_3_method_12_code
def yX2_again : MethodName := ⟨RX2, "again", "(I)Z"⟩
theorem dX2_again_0 : decode cX2_again 0 = .ok (.iconst 0, 1) := by decide +kernel
theorem dX2_again_1 : decode cX2_again 1 = .ok (.istore_n 2, 1) := by decide +kernel
theorem dX2_again_2 : decode cX2_again 2 = .ok (.iload_n 2, 1) := by decide +kernel
theorem dX2_again_3 : decode cX2_again 3 = .ok (.iload_n 1, 1) := by decide +kernel
theorem dX2_again_4 : decode cX2_again 4 = .ok (.if_icmp .ge 28, 3) := by decide +kernel
theorem dX2_again_7 : decode cX2_again 7 = .ok (.aload_n 0, 1) := by decide +kernel
theorem dX2_again_8 : decode cX2_again 8 = .ok (.iload_n 2, 1) := by decide +kernel
theorem dX2_again_9 : decode cX2_again 9 = .ok (.invokevirtual 25, 3) := by decide +kernel
theorem dX2_again_12 : decode cX2_again 12 = .ok (.ifCond .eq 14, 3) := by decide +kernel
theorem dX2_again_15 : decode cX2_again 15 = .ok (.aload_n 0, 1) := by decide +kernel
theorem dX2_again_16 : decode cX2_again 16 = .ok (.iload_n 2, 1) := by decide +kernel
theorem dX2_again_17 : decode cX2_again 17 = .ok (.iload_n 1, 1) := by decide +kernel
theorem dX2_again_18 : decode cX2_again 18 = .ok (.invokevirtual 28, 3) := by decide +kernel
theorem dX2_again_21 : decode cX2_again 21 = .ok (.ifCond .eq 5, 3) := by decide +kernel
theorem dX2_again_24 : decode cX2_again 24 = .ok (.iconst 1, 1) := by decide +kernel
theorem dX2_again_25 : decode cX2_again 25 = .ok (.ireturn, 1) := by decide +kernel
theorem dX2_again_26 : decode cX2_again 26 = .ok (.iinc 2 1, 3) := by decide +kernel
theorem dX2_again_29 : decode cX2_again 29 = .ok (.goto (-27), 3) := by decide +kernel
theorem dX2_again_32 : decode cX2_again 32 = .ok (.iconst 0, 1) := by decide +kernel
theorem dX2_again_33 : decode cX2_again 33 = .ok (.ireturn, 1) := by decide +kernel
abbrev cX2_duplicates : ByteArray := prog_3_method_14_code
def yX2_duplicates : MethodName := ⟨RX2, "duplicates", "()I"⟩
theorem dX2_duplicates_0 : decode cX2_duplicates 0 = .ok (.iconst 0, 1) := by decide +kernel
theorem dX2_duplicates_1 : decode cX2_duplicates 1 = .ok (.istore_n 1, 1) := by decide +kernel
theorem dX2_duplicates_2 : decode cX2_duplicates 2 = .ok (.iconst 0, 1) := by decide +kernel
theorem dX2_duplicates_3 : decode cX2_duplicates 3 = .ok (.istore_n 2, 1) := by decide +kernel
theorem dX2_duplicates_4 : decode cX2_duplicates 4 = .ok (.iload_n 2, 1) := by decide +kernel
theorem dX2_duplicates_5 : decode cX2_duplicates 5 = .ok (.bipush 24, 2) := by decide +kernel
theorem dX2_duplicates_7 : decode cX2_duplicates 7 = .ok (.if_icmp .ge 28, 3) := by decide +kernel
theorem dX2_duplicates_10 : decode cX2_duplicates 10 = .ok (.aload_n 0, 1) := by decide +kernel
theorem dX2_duplicates_11 : decode cX2_duplicates 11 = .ok (.iload_n 2, 1) := by decide +kernel
theorem dX2_duplicates_12 : decode cX2_duplicates 12 = .ok (.invokevirtual 25, 3) := by decide +kernel
theorem dX2_duplicates_15 : decode cX2_duplicates 15 = .ok (.ifCond .eq 14, 3) := by decide +kernel
theorem dX2_duplicates_18 : decode cX2_duplicates 18 = .ok (.aload_n 0, 1) := by decide +kernel
theorem dX2_duplicates_19 : decode cX2_duplicates 19 = .ok (.iload_n 2, 1) := by decide +kernel
theorem dX2_duplicates_20 : decode cX2_duplicates 20 = .ok (.invokevirtual 32, 3) := by decide +kernel
theorem dX2_duplicates_23 : decode cX2_duplicates 23 = .ok (.ifCond .eq 6, 3) := by decide +kernel
theorem dX2_duplicates_26 : decode cX2_duplicates 26 = .ok (.iinc 1 1, 3) := by decide +kernel
theorem dX2_duplicates_29 : decode cX2_duplicates 29 = .ok (.iinc 2 1, 3) := by decide +kernel
theorem dX2_duplicates_32 : decode cX2_duplicates 32 = .ok (.goto (-28), 3) := by decide +kernel
theorem dX2_duplicates_35 : decode cX2_duplicates 35 = .ok (.iload_n 1, 1) := by decide +kernel
theorem dX2_duplicates_36 : decode cX2_duplicates 36 = .ok (.ireturn, 1) := by decide +kernel
abbrev cX2_sum : ByteArray := prog_3_method_15_code
def yX2_sum : MethodName := ⟨RX2, "sum", "(I)I"⟩
theorem dX2_sum_0 : decode cX2_sum 0 = .ok (.iconst 0, 1) := by decide +kernel
theorem dX2_sum_1 : decode cX2_sum 1 = .ok (.istore_n 2, 1) := by decide +kernel
theorem dX2_sum_2 : decode cX2_sum 2 = .ok (.iconst 0, 1) := by decide +kernel
theorem dX2_sum_3 : decode cX2_sum 3 = .ok (.istore_n 3, 1) := by decide +kernel
theorem dX2_sum_4 : decode cX2_sum 4 = .ok (.iload_n 3, 1) := by decide +kernel
theorem dX2_sum_5 : decode cX2_sum 5 = .ok (.bipush 96, 2) := by decide +kernel
theorem dX2_sum_7 : decode cX2_sum 7 = .ok (.if_icmp .ge 26, 3) := by decide +kernel
theorem dX2_sum_10 : decode cX2_sum 10 = .ok (.iload_n 3, 1) := by decide +kernel
theorem dX2_sum_11 : decode cX2_sum 11 = .ok (.bipush 32, 2) := by decide +kernel
theorem dX2_sum_13 : decode cX2_sum 13 = .ok (.idiv, 1) := by decide +kernel
theorem dX2_sum_14 : decode cX2_sum 14 = .ok (.iload_n 1, 1) := by decide +kernel
theorem dX2_sum_15 : decode cX2_sum 15 = .ok (.if_icmp .ne 12, 3) := by decide +kernel
theorem dX2_sum_18 : decode cX2_sum 18 = .ok (.iload_n 2, 1) := by decide +kernel
theorem dX2_sum_19 : decode cX2_sum 19 = .ok (.aload_n 0, 1) := by decide +kernel
theorem dX2_sum_20 : decode cX2_sum 20 = .ok (.getfield 7, 3) := by decide +kernel
theorem dX2_sum_23 : decode cX2_sum 23 = .ok (.iload_n 3, 1) := by decide +kernel
theorem dX2_sum_24 : decode cX2_sum 24 = .ok (.iaload, 1) := by decide +kernel
theorem dX2_sum_25 : decode cX2_sum 25 = .ok (.iadd, 1) := by decide +kernel
theorem dX2_sum_26 : decode cX2_sum 26 = .ok (.istore_n 2, 1) := by decide +kernel
theorem dX2_sum_27 : decode cX2_sum 27 = .ok (.iinc 3 1, 3) := by decide +kernel
theorem dX2_sum_30 : decode cX2_sum 30 = .ok (.goto (-26), 3) := by decide +kernel
theorem dX2_sum_33 : decode cX2_sum 33 = .ok (.iload_n 2, 1) := by decide +kernel
theorem dX2_sum_34 : decode cX2_sum 34 = .ok (.ireturn, 1) := by decide +kernel
abbrev cX2_plain : ByteArray := prog_3_method_16_code
def yX2_plain : MethodName := ⟨RX2, "plain", "()I"⟩
theorem dX2_plain_0 : decode cX2_plain 0 = .ok (.iconst 0, 1) := by decide +kernel
theorem dX2_plain_1 : decode cX2_plain 1 = .ok (.istore_n 1, 1) := by decide +kernel
theorem dX2_plain_2 : decode cX2_plain 2 = .ok (.iconst 0, 1) := by decide +kernel
theorem dX2_plain_3 : decode cX2_plain 3 = .ok (.istore_n 2, 1) := by decide +kernel
theorem dX2_plain_4 : decode cX2_plain 4 = .ok (.iload_n 2, 1) := by decide +kernel
theorem dX2_plain_5 : decode cX2_plain 5 = .ok (.bipush 24, 2) := by decide +kernel
theorem dX2_plain_7 : decode cX2_plain 7 = .ok (.if_icmp .ge 73, 3) := by decide +kernel
theorem dX2_plain_10 : decode cX2_plain 10 = .ok (.iconst 1, 1) := by decide +kernel
theorem dX2_plain_11 : decode cX2_plain 11 = .ok (.istore_n 3, 1) := by decide +kernel
theorem dX2_plain_12 : decode cX2_plain 12 = .ok (.iconst 1, 1) := by decide +kernel
theorem dX2_plain_13 : decode cX2_plain 13 = .ok (.istore 4, 2) := by decide +kernel
theorem dX2_plain_15 : decode cX2_plain 15 = .ok (.iload 4, 2) := by decide +kernel
theorem dX2_plain_17 : decode cX2_plain 17 = .ok (.iconst 4, 1) := by decide +kernel
theorem dX2_plain_18 : decode cX2_plain 18 = .ok (.if_icmp .ge 41, 3) := by decide +kernel
theorem dX2_plain_21 : decode cX2_plain 21 = .ok (.iload_n 3, 1) := by decide +kernel
theorem dX2_plain_22 : decode cX2_plain 22 = .ok (.ifCond .eq 29, 3) := by decide +kernel
theorem dX2_plain_25 : decode cX2_plain 25 = .ok (.aload_n 0, 1) := by decide +kernel
theorem dX2_plain_26 : decode cX2_plain 26 = .ok (.getfield 7, 3) := by decide +kernel
theorem dX2_plain_29 : decode cX2_plain 29 = .ok (.iload_n 2, 1) := by decide +kernel
theorem dX2_plain_30 : decode cX2_plain 30 = .ok (.iconst 4, 1) := by decide +kernel
theorem dX2_plain_31 : decode cX2_plain 31 = .ok (.imul, 1) := by decide +kernel
theorem dX2_plain_32 : decode cX2_plain 32 = .ok (.iload 4, 2) := by decide +kernel
theorem dX2_plain_34 : decode cX2_plain 34 = .ok (.iadd, 1) := by decide +kernel
theorem dX2_plain_35 : decode cX2_plain 35 = .ok (.iaload, 1) := by decide +kernel
theorem dX2_plain_36 : decode cX2_plain 36 = .ok (.aload_n 0, 1) := by decide +kernel
theorem dX2_plain_37 : decode cX2_plain 37 = .ok (.getfield 7, 3) := by decide +kernel
theorem dX2_plain_40 : decode cX2_plain 40 = .ok (.iload_n 2, 1) := by decide +kernel
theorem dX2_plain_41 : decode cX2_plain 41 = .ok (.iconst 4, 1) := by decide +kernel
theorem dX2_plain_42 : decode cX2_plain 42 = .ok (.imul, 1) := by decide +kernel
theorem dX2_plain_43 : decode cX2_plain 43 = .ok (.iaload, 1) := by decide +kernel
theorem dX2_plain_44 : decode cX2_plain 44 = .ok (.if_icmp .ne 7, 3) := by decide +kernel
theorem dX2_plain_47 : decode cX2_plain 47 = .ok (.iconst 1, 1) := by decide +kernel
theorem dX2_plain_48 : decode cX2_plain 48 = .ok (.goto 4, 3) := by decide +kernel
theorem dX2_plain_51 : decode cX2_plain 51 = .ok (.iconst 0, 1) := by decide +kernel
theorem dX2_plain_52 : decode cX2_plain 52 = .ok (.istore_n 3, 1) := by decide +kernel
theorem dX2_plain_53 : decode cX2_plain 53 = .ok (.iinc 4 1, 3) := by decide +kernel
theorem dX2_plain_56 : decode cX2_plain 56 = .ok (.goto (-41), 3) := by decide +kernel
theorem dX2_plain_59 : decode cX2_plain 59 = .ok (.iload_n 3, 1) := by decide +kernel
theorem dX2_plain_60 : decode cX2_plain 60 = .ok (.ifCond .eq 14, 3) := by decide +kernel
theorem dX2_plain_63 : decode cX2_plain 63 = .ok (.aload_n 0, 1) := by decide +kernel
theorem dX2_plain_64 : decode cX2_plain 64 = .ok (.iload_n 2, 1) := by decide +kernel
theorem dX2_plain_65 : decode cX2_plain 65 = .ok (.invokevirtual 25, 3) := by decide +kernel
theorem dX2_plain_68 : decode cX2_plain 68 = .ok (.ifCond .eq 6, 3) := by decide +kernel
theorem dX2_plain_71 : decode cX2_plain 71 = .ok (.iinc 1 1, 3) := by decide +kernel
theorem dX2_plain_74 : decode cX2_plain 74 = .ok (.iinc 2 1, 3) := by decide +kernel
theorem dX2_plain_77 : decode cX2_plain 77 = .ok (.goto (-73), 3) := by decide +kernel
theorem dX2_plain_80 : decode cX2_plain 80 = .ok (.iload_n 1, 1) := by decide +kernel
theorem dX2_plain_81 : decode cX2_plain 81 = .ok (.ireturn, 1) := by decide +kernel
theorem q19 : (Jvm.Cond.initialized "PageMergerModel") ∈ lw_all := lw_g (lw_at lw_m1 2 rfl) rfl
theorem q196 : (Jvm.Cond.instantiable "PageMergerModel" (2 : Nat)) ∈ lw_all := lw_g (lw_at lw_m1 179 rfl) rfl
theorem q198 : (Jvm.Cond.instanceMethod ({ cls := "PageMergerModel", name := "<init>", desc := "(I)V" } : Jvm.MethodName)) ∈ lw_all := lw_g (lw_at lw_m1 181 rfl) rfl
theorem q199 : (Jvm.Cond.code ({ cls := "PageMergerModel", name := "<init>", desc := "(I)V" } : Jvm.MethodName) prog_3_method_1_code (2 : Nat) (Option.none : Option Jvm.ClassFile.FieldType)) ∈ lw_all := lw_g (lw_at lw_m1 182 rfl) rfl
theorem q200 : (Jvm.Cond.methodLink "PageMergerModel" (1 : Nat) ({ cls := "java/lang/Object", name := "<init>", desc := "()V" } : Jvm.MethodName)) ∈ lw_all := lw_g (lw_at lw_m1 183 rfl) rfl
theorem q201 : (Jvm.Cond.fieldLink "PageMergerModel" (7 : Nat) "PageMergerModel" "words" "[I") ∈ lw_all := lw_g (lw_at lw_m1 184 rfl) rfl
theorem q202 : (Jvm.Cond.fieldLink "PageMergerModel" (13 : Nat) "PageMergerModel" "released" "[Z") ∈ lw_all := lw_g (lw_at lw_m1 185 rfl) rfl
theorem q203 : (Jvm.Cond.laysFinal "PageMergerModel" "PageMergerModel" "words" "[I") ∈ lw_all := lw_g (lw_at lw_m1 186 rfl) rfl
theorem q204 : (Jvm.Cond.soleField "PageMergerModel" "words") ∈ lw_all := lw_g (lw_at lw_m1 187 rfl) rfl
theorem q205 : (Jvm.Cond.laysFinal "PageMergerModel" "PageMergerModel" "released" "[Z") ∈ lw_all := lw_g (lw_at lw_m1 188 rfl) rfl
theorem q206 : (Jvm.Cond.soleField "PageMergerModel" "released") ∈ lw_all := lw_g (lw_at lw_m1 189 rfl) rfl
theorem q207 : (Jvm.Cond.superclass "PageMergerModel" "java/lang/Object") ∈ lw_all := lw_g (lw_at lw_m1 190 rfl) rfl
theorem q209 : (Jvm.Cond.instanceMethod ({ cls := "PageMergerModel", name := "write", desc := "(III)I" } : Jvm.MethodName)) ∈ lw_all := lw_g (lw_at lw_m1 192 rfl) rfl
theorem q210 : (Jvm.Cond.selects "PageMergerModel" ({ cls := "PageMergerModel", name := "write", desc := "(III)I" } : Jvm.MethodName) ({ cls := "PageMergerModel", name := "write", desc := "(III)I" } : Jvm.MethodName)) ∈ lw_all := lw_g (lw_at lw_m1 193 rfl) rfl
theorem q211 : (Jvm.Cond.code ({ cls := "PageMergerModel", name := "write", desc := "(III)I" } : Jvm.MethodName) prog_3_method_3_code (5 : Nat) (Option.some Jvm.ClassFile.FieldType.int)) ∈ lw_all := lw_g (lw_at lw_m1 194 rfl) rfl
theorem q212 : (Jvm.Cond.methodLink "PageMergerModel" (17 : Nat) ({ cls := "PageMergerModel", name := "isPage", desc := "(I)Z" } : Jvm.MethodName)) ∈ lw_all := lw_g (lw_at lw_m1 195 rfl) rfl
theorem q213 : (Jvm.Cond.privateMethod ({ cls := "PageMergerModel", name := "isPage", desc := "(I)Z" } : Jvm.MethodName)) ∈ lw_tbl := lw_at lw_m1 196 rfl
theorem q214 : (Jvm.Cond.instanceMethod ({ cls := "PageMergerModel", name := "isPage", desc := "(I)Z" } : Jvm.MethodName)) ∈ lw_all := lw_g (lw_at lw_m1 197 rfl) rfl
theorem q215 : (Jvm.Cond.code ({ cls := "PageMergerModel", name := "isPage", desc := "(I)Z" } : Jvm.MethodName) prog_3_method_2_code (2 : Nat) (Option.some Jvm.ClassFile.FieldType.boolean)) ∈ lw_all := lw_g (lw_at lw_m1 198 rfl) rfl
theorem q217 : (Jvm.Cond.instanceMethod ({ cls := "PageMergerModel", name := "fill", desc := "(II)I" } : Jvm.MethodName)) ∈ lw_all := lw_g (lw_at lw_m1 200 rfl) rfl
theorem q218 : (Jvm.Cond.selects "PageMergerModel" ({ cls := "PageMergerModel", name := "fill", desc := "(II)I" } : Jvm.MethodName) ({ cls := "PageMergerModel", name := "fill", desc := "(II)I" } : Jvm.MethodName)) ∈ lw_all := lw_g (lw_at lw_m1 201 rfl) rfl
theorem q219 : (Jvm.Cond.code ({ cls := "PageMergerModel", name := "fill", desc := "(II)I" } : Jvm.MethodName) prog_3_method_4_code (4 : Nat) (Option.some Jvm.ClassFile.FieldType.int)) ∈ lw_all := lw_g (lw_at lw_m1 202 rfl) rfl
theorem q221 : (Jvm.Cond.instanceMethod ({ cls := "PageMergerModel", name := "copy", desc := "(II)I" } : Jvm.MethodName)) ∈ lw_all := lw_g (lw_at lw_m1 204 rfl) rfl
theorem q222 : (Jvm.Cond.selects "PageMergerModel" ({ cls := "PageMergerModel", name := "copy", desc := "(II)I" } : Jvm.MethodName) ({ cls := "PageMergerModel", name := "copy", desc := "(II)I" } : Jvm.MethodName)) ∈ lw_all := lw_g (lw_at lw_m1 205 rfl) rfl
theorem q223 : (Jvm.Cond.code ({ cls := "PageMergerModel", name := "copy", desc := "(II)I" } : Jvm.MethodName) prog_3_method_5_code (4 : Nat) (Option.some Jvm.ClassFile.FieldType.int)) ∈ lw_all := lw_g (lw_at lw_m1 206 rfl) rfl
theorem q225 : (Jvm.Cond.instanceMethod ({ cls := "PageMergerModel", name := "swap", desc := "(II)I" } : Jvm.MethodName)) ∈ lw_all := lw_g (lw_at lw_m1 208 rfl) rfl
theorem q226 : (Jvm.Cond.selects "PageMergerModel" ({ cls := "PageMergerModel", name := "swap", desc := "(II)I" } : Jvm.MethodName) ({ cls := "PageMergerModel", name := "swap", desc := "(II)I" } : Jvm.MethodName)) ∈ lw_all := lw_g (lw_at lw_m1 209 rfl) rfl
theorem q227 : (Jvm.Cond.code ({ cls := "PageMergerModel", name := "swap", desc := "(II)I" } : Jvm.MethodName) prog_3_method_6_code (5 : Nat) (Option.some Jvm.ClassFile.FieldType.int)) ∈ lw_all := lw_g (lw_at lw_m1 210 rfl) rfl
theorem q229 : (Jvm.Cond.instanceMethod ({ cls := "PageMergerModel", name := "release", desc := "(I)I" } : Jvm.MethodName)) ∈ lw_all := lw_g (lw_at lw_m1 212 rfl) rfl
theorem q230 : (Jvm.Cond.selects "PageMergerModel" ({ cls := "PageMergerModel", name := "release", desc := "(I)I" } : Jvm.MethodName) ({ cls := "PageMergerModel", name := "release", desc := "(I)I" } : Jvm.MethodName)) ∈ lw_all := lw_g (lw_at lw_m1 213 rfl) rfl
theorem q231 : (Jvm.Cond.code ({ cls := "PageMergerModel", name := "release", desc := "(I)I" } : Jvm.MethodName) prog_3_method_7_code (2 : Nat) (Option.some Jvm.ClassFile.FieldType.int)) ∈ lw_all := lw_g (lw_at lw_m1 214 rfl) rfl
theorem q232 : (Jvm.Cond.methodLink "PageMergerModel" (21 : Nat) ({ cls := "PageMergerModel", name := "fill", desc := "(II)I" } : Jvm.MethodName)) ∈ lw_all := lw_g (lw_at lw_m1 215 rfl) rfl
theorem q234 : (Jvm.Cond.instanceMethod ({ cls := "PageMergerModel", name := "scan", desc := "(I)V" } : Jvm.MethodName)) ∈ lw_all := lw_g (lw_at lw_m1 217 rfl) rfl
theorem q235 : (Jvm.Cond.selects "PageMergerModel" ({ cls := "PageMergerModel", name := "scan", desc := "(I)V" } : Jvm.MethodName) ({ cls := "PageMergerModel", name := "scan", desc := "(I)V" } : Jvm.MethodName)) ∈ lw_all := lw_g (lw_at lw_m1 218 rfl) rfl
theorem q236 : (Jvm.Cond.code ({ cls := "PageMergerModel", name := "scan", desc := "(I)V" } : Jvm.MethodName) prog_3_method_8_code (2 : Nat) (Option.none : Option Jvm.ClassFile.FieldType)) ∈ lw_all := lw_g (lw_at lw_m1 219 rfl) rfl
theorem q238 : (Jvm.Cond.instanceMethod ({ cls := "PageMergerModel", name := "read", desc := "(II)I" } : Jvm.MethodName)) ∈ lw_all := lw_g (lw_at lw_m1 221 rfl) rfl
theorem q239 : (Jvm.Cond.selects "PageMergerModel" ({ cls := "PageMergerModel", name := "read", desc := "(II)I" } : Jvm.MethodName) ({ cls := "PageMergerModel", name := "read", desc := "(II)I" } : Jvm.MethodName)) ∈ lw_all := lw_g (lw_at lw_m1 222 rfl) rfl
theorem q240 : (Jvm.Cond.code ({ cls := "PageMergerModel", name := "read", desc := "(II)I" } : Jvm.MethodName) prog_3_method_9_code (3 : Nat) (Option.some Jvm.ClassFile.FieldType.int)) ∈ lw_all := lw_g (lw_at lw_m1 223 rfl) rfl
theorem q242 : (Jvm.Cond.instanceMethod ({ cls := "PageMergerModel", name := "held", desc := "(I)Z" } : Jvm.MethodName)) ∈ lw_all := lw_g (lw_at lw_m1 225 rfl) rfl
theorem q243 : (Jvm.Cond.selects "PageMergerModel" ({ cls := "PageMergerModel", name := "held", desc := "(I)Z" } : Jvm.MethodName) ({ cls := "PageMergerModel", name := "held", desc := "(I)Z" } : Jvm.MethodName)) ∈ lw_all := lw_g (lw_at lw_m1 226 rfl) rfl
theorem q244 : (Jvm.Cond.code ({ cls := "PageMergerModel", name := "held", desc := "(I)Z" } : Jvm.MethodName) prog_3_method_10_code (2 : Nat) (Option.some Jvm.ClassFile.FieldType.boolean)) ∈ lw_all := lw_g (lw_at lw_m1 227 rfl) rfl
theorem q246 : (Jvm.Cond.instanceMethod ({ cls := "PageMergerModel", name := "same", desc := "(II)Z" } : Jvm.MethodName)) ∈ lw_all := lw_g (lw_at lw_m1 229 rfl) rfl
theorem q247 : (Jvm.Cond.selects "PageMergerModel" ({ cls := "PageMergerModel", name := "same", desc := "(II)Z" } : Jvm.MethodName) ({ cls := "PageMergerModel", name := "same", desc := "(II)Z" } : Jvm.MethodName)) ∈ lw_all := lw_g (lw_at lw_m1 230 rfl) rfl
theorem q248 : (Jvm.Cond.code ({ cls := "PageMergerModel", name := "same", desc := "(II)Z" } : Jvm.MethodName) prog_3_method_11_code (4 : Nat) (Option.some Jvm.ClassFile.FieldType.boolean)) ∈ lw_all := lw_g (lw_at lw_m1 231 rfl) rfl
theorem q250 : (Jvm.Cond.instanceMethod ({ cls := "PageMergerModel", name := "contents", desc := "()I" } : Jvm.MethodName)) ∈ lw_all := lw_g (lw_at lw_m1 233 rfl) rfl
theorem q251 : (Jvm.Cond.selects "PageMergerModel" ({ cls := "PageMergerModel", name := "contents", desc := "()I" } : Jvm.MethodName) ({ cls := "PageMergerModel", name := "contents", desc := "()I" } : Jvm.MethodName)) ∈ lw_all := lw_g (lw_at lw_m1 234 rfl) rfl
theorem q252 : (Jvm.Cond.code ({ cls := "PageMergerModel", name := "contents", desc := "()I" } : Jvm.MethodName) prog_3_method_13_code (3 : Nat) (Option.some Jvm.ClassFile.FieldType.int)) ∈ lw_all := lw_g (lw_at lw_m1 235 rfl) rfl
theorem q253 : (Jvm.Cond.methodLink "PageMergerModel" (25 : Nat) ({ cls := "PageMergerModel", name := "held", desc := "(I)Z" } : Jvm.MethodName)) ∈ lw_all := lw_g (lw_at lw_m1 236 rfl) rfl
theorem q254 : (Jvm.Cond.methodLink "PageMergerModel" (32 : Nat) ({ cls := "PageMergerModel", name := "again", desc := "(I)Z" } : Jvm.MethodName)) ∈ lw_all := lw_g (lw_at lw_m1 237 rfl) rfl
theorem q255 : (Jvm.Cond.privateMethod ({ cls := "PageMergerModel", name := "again", desc := "(I)Z" } : Jvm.MethodName)) ∈ lw_tbl := lw_at lw_m1 238 rfl
theorem q256 : (Jvm.Cond.instanceMethod ({ cls := "PageMergerModel", name := "again", desc := "(I)Z" } : Jvm.MethodName)) ∈ lw_all := lw_g (lw_at lw_m1 239 rfl) rfl
theorem q257 : (Jvm.Cond.code ({ cls := "PageMergerModel", name := "again", desc := "(I)Z" } : Jvm.MethodName) prog_3_method_12_code (3 : Nat) (Option.some Jvm.ClassFile.FieldType.boolean)) ∈ lw_all := lw_g (lw_at lw_m2 0 rfl) rfl
theorem q258 : (Jvm.Cond.methodLink "PageMergerModel" (28 : Nat) ({ cls := "PageMergerModel", name := "same", desc := "(II)Z" } : Jvm.MethodName)) ∈ lw_all := lw_g (lw_at lw_m2 1 rfl) rfl
theorem q260 : (Jvm.Cond.instanceMethod ({ cls := "PageMergerModel", name := "duplicates", desc := "()I" } : Jvm.MethodName)) ∈ lw_all := lw_g (lw_at lw_m2 3 rfl) rfl
theorem q261 : (Jvm.Cond.selects "PageMergerModel" ({ cls := "PageMergerModel", name := "duplicates", desc := "()I" } : Jvm.MethodName) ({ cls := "PageMergerModel", name := "duplicates", desc := "()I" } : Jvm.MethodName)) ∈ lw_all := lw_g (lw_at lw_m2 4 rfl) rfl
theorem q262 : (Jvm.Cond.code ({ cls := "PageMergerModel", name := "duplicates", desc := "()I" } : Jvm.MethodName) prog_3_method_14_code (3 : Nat) (Option.some Jvm.ClassFile.FieldType.int)) ∈ lw_all := lw_g (lw_at lw_m2 5 rfl) rfl
theorem q264 : (Jvm.Cond.instanceMethod ({ cls := "PageMergerModel", name := "sum", desc := "(I)I" } : Jvm.MethodName)) ∈ lw_all := lw_g (lw_at lw_m2 7 rfl) rfl
theorem q265 : (Jvm.Cond.selects "PageMergerModel" ({ cls := "PageMergerModel", name := "sum", desc := "(I)I" } : Jvm.MethodName) ({ cls := "PageMergerModel", name := "sum", desc := "(I)I" } : Jvm.MethodName)) ∈ lw_all := lw_g (lw_at lw_m2 8 rfl) rfl
theorem q266 : (Jvm.Cond.code ({ cls := "PageMergerModel", name := "sum", desc := "(I)I" } : Jvm.MethodName) prog_3_method_15_code (4 : Nat) (Option.some Jvm.ClassFile.FieldType.int)) ∈ lw_all := lw_g (lw_at lw_m2 9 rfl) rfl
theorem q268 : (Jvm.Cond.instanceMethod ({ cls := "PageMergerModel", name := "plain", desc := "()I" } : Jvm.MethodName)) ∈ lw_all := lw_g (lw_at lw_m2 11 rfl) rfl
theorem q269 : (Jvm.Cond.selects "PageMergerModel" ({ cls := "PageMergerModel", name := "plain", desc := "()I" } : Jvm.MethodName) ({ cls := "PageMergerModel", name := "plain", desc := "()I" } : Jvm.MethodName)) ∈ lw_all := lw_g (lw_at lw_m2 12 rfl) rfl
theorem q270 : (Jvm.Cond.code ({ cls := "PageMergerModel", name := "plain", desc := "()I" } : Jvm.MethodName) prog_3_method_16_code (5 : Nat) (Option.some Jvm.ClassFile.FieldType.int)) ∈ lw_all := lw_g (lw_at lw_m2 13 rfl) rfl
theorem in_X2 : ∀ w ∈ wsX20, w ∈ lw_all := lw_in wsX20 [203, 205] (by decide +kernel) (by decide +kernel)
end
section
/-! PageMergerLaw -/
set_option maxRecDepth 100000
def RX0 : String := "PageMergerLaw"
abbrev cX0_cell : ByteArray := method_2_code
def yX0_cell : MethodName := ⟨RX0, "cell", "([II)I"⟩
theorem dX0_cell_0 : decode cX0_cell 0 = .ok (.iload_n 1, 1) := by decide +kernel
theorem dX0_cell_1 : decode cX0_cell 1 = .ok (.aload_n 0, 1) := by decide +kernel
theorem dX0_cell_2 : decode cX0_cell 2 = .ok (.arraylength, 1) := by decide +kernel
theorem dX0_cell_3 : decode cX0_cell 3 = .ok (.if_icmp .ge 9, 3) := by decide +kernel
theorem dX0_cell_6 : decode cX0_cell 6 = .ok (.aload_n 0, 1) := by decide +kernel
theorem dX0_cell_7 : decode cX0_cell 7 = .ok (.iload_n 1, 1) := by decide +kernel
theorem dX0_cell_8 : decode cX0_cell 8 = .ok (.iaload, 1) := by decide +kernel
theorem dX0_cell_9 : decode cX0_cell 9 = .ok (.goto 4, 3) := by decide +kernel
theorem dX0_cell_12 : decode cX0_cell 12 = .ok (.iconst 0, 1) := by decide +kernel
theorem dX0_cell_13 : decode cX0_cell 13 = .ok (.ireturn, 1) := by decide +kernel
theorem q17 : (Jvm.Cond.initialized "PageMergerLaw") ∈ lw_all := lw_g (lw_at lw_m1 0 rfl) rfl
theorem q20 : (Jvm.Cond.classLink "PageMergerLaw" (7 : Nat) "PageMerger") ∈ lw_all := lw_g (lw_at lw_m1 3 rfl) rfl
theorem q22 : (Jvm.Cond.methodLink "PageMergerLaw" (15 : Nat) ({ cls := "PageMerger", name := "<init>", desc := "(I)V" } : Jvm.MethodName)) ∈ lw_all := lw_g (lw_at lw_m1 5 rfl) rfl
theorem q73 : (Jvm.Cond.methodLink "PageMergerLaw" (21 : Nat) ({ cls := "PageMerger", name := "write", desc := "(III)I" } : Jvm.MethodName)) ∈ lw_all := lw_g (lw_at lw_m1 56 rfl) rfl
theorem q120 : (Jvm.Cond.methodLink "PageMergerLaw" (26 : Nat) ({ cls := "PageMerger", name := "fill", desc := "(II)I" } : Jvm.MethodName)) ∈ lw_all := lw_g (lw_at lw_m1 103 rfl) rfl
theorem q124 : (Jvm.Cond.methodLink "PageMergerLaw" (31 : Nat) ({ cls := "PageMerger", name := "copy", desc := "(II)I" } : Jvm.MethodName)) ∈ lw_all := lw_g (lw_at lw_m1 107 rfl) rfl
theorem q128 : (Jvm.Cond.methodLink "PageMergerLaw" (35 : Nat) ({ cls := "PageMerger", name := "swap", desc := "(II)I" } : Jvm.MethodName)) ∈ lw_all := lw_g (lw_at lw_m1 111 rfl) rfl
theorem q132 : (Jvm.Cond.methodLink "PageMergerLaw" (39 : Nat) ({ cls := "PageMerger", name := "release", desc := "(I)I" } : Jvm.MethodName)) ∈ lw_all := lw_g (lw_at lw_m1 115 rfl) rfl
theorem q136 : (Jvm.Cond.methodLink "PageMergerLaw" (44 : Nat) ({ cls := "PageMerger", name := "scan", desc := "(I)V" } : Jvm.MethodName)) ∈ lw_all := lw_g (lw_at lw_m1 119 rfl) rfl
theorem q156 : (Jvm.Cond.methodLink "PageMergerLaw" (48 : Nat) ({ cls := "PageMerger", name := "read", desc := "(II)I" } : Jvm.MethodName)) ∈ lw_all := lw_g (lw_at lw_m1 139 rfl) rfl
theorem q160 : (Jvm.Cond.methodLink "PageMergerLaw" (52 : Nat) ({ cls := "PageMerger", name := "held", desc := "(I)Z" } : Jvm.MethodName)) ∈ lw_all := lw_g (lw_at lw_m1 143 rfl) rfl
theorem q164 : (Jvm.Cond.methodLink "PageMergerLaw" (57 : Nat) ({ cls := "PageMerger", name := "same", desc := "(II)Z" } : Jvm.MethodName)) ∈ lw_all := lw_g (lw_at lw_m1 147 rfl) rfl
theorem q172 : (Jvm.Cond.methodLink "PageMergerLaw" (62 : Nat) ({ cls := "PageMerger", name := "contents", desc := "()I" } : Jvm.MethodName)) ∈ lw_all := lw_g (lw_at lw_m1 155 rfl) rfl
theorem q180 : (Jvm.Cond.methodLink "PageMergerLaw" (67 : Nat) ({ cls := "PageMerger", name := "duplicates", desc := "()I" } : Jvm.MethodName)) ∈ lw_all := lw_g (lw_at lw_m1 163 rfl) rfl
theorem q184 : (Jvm.Cond.methodLink "PageMergerLaw" (71 : Nat) ({ cls := "PageMerger", name := "sum", desc := "(I)I" } : Jvm.MethodName)) ∈ lw_all := lw_g (lw_at lw_m1 167 rfl) rfl
theorem q188 : (Jvm.Cond.methodLink "PageMergerLaw" (75 : Nat) ({ cls := "PageMerger", name := "plain", desc := "()I" } : Jvm.MethodName)) ∈ lw_all := lw_g (lw_at lw_m1 171 rfl) rfl
theorem q192 : (Jvm.Cond.methodLink "PageMergerLaw" (9 : Nat) ({ cls := "PageMergerLaw", name := "cell", desc := "([II)I" } : Jvm.MethodName)) ∈ lw_all := lw_g (lw_at lw_m1 175 rfl) rfl
theorem q193 : (Jvm.Cond.static ({ cls := "PageMergerLaw", name := "cell", desc := "([II)I" } : Jvm.MethodName)) ∈ lw_all := lw_g (lw_at lw_m1 176 rfl) rfl
theorem q194 : (Jvm.Cond.code ({ cls := "PageMergerLaw", name := "cell", desc := "([II)I" } : Jvm.MethodName) method_2_code (2 : Nat) (Option.some Jvm.ClassFile.FieldType.int)) ∈ lw_all := lw_g (lw_at lw_m1 177 rfl) rfl
theorem q195 : (Jvm.Cond.classLink "PageMergerLaw" (18 : Nat) "PageMergerModel") ∈ lw_all := lw_g (lw_at lw_m1 178 rfl) rfl
theorem q197 : (Jvm.Cond.methodLink "PageMergerLaw" (20 : Nat) ({ cls := "PageMergerModel", name := "<init>", desc := "(I)V" } : Jvm.MethodName)) ∈ lw_all := lw_g (lw_at lw_m1 180 rfl) rfl
theorem q208 : (Jvm.Cond.methodLink "PageMergerLaw" (25 : Nat) ({ cls := "PageMergerModel", name := "write", desc := "(III)I" } : Jvm.MethodName)) ∈ lw_all := lw_g (lw_at lw_m1 191 rfl) rfl
theorem q216 : (Jvm.Cond.methodLink "PageMergerLaw" (30 : Nat) ({ cls := "PageMergerModel", name := "fill", desc := "(II)I" } : Jvm.MethodName)) ∈ lw_all := lw_g (lw_at lw_m1 199 rfl) rfl
theorem q220 : (Jvm.Cond.methodLink "PageMergerLaw" (34 : Nat) ({ cls := "PageMergerModel", name := "copy", desc := "(II)I" } : Jvm.MethodName)) ∈ lw_all := lw_g (lw_at lw_m1 203 rfl) rfl
theorem q224 : (Jvm.Cond.methodLink "PageMergerLaw" (38 : Nat) ({ cls := "PageMergerModel", name := "swap", desc := "(II)I" } : Jvm.MethodName)) ∈ lw_all := lw_g (lw_at lw_m1 207 rfl) rfl
theorem q228 : (Jvm.Cond.methodLink "PageMergerLaw" (43 : Nat) ({ cls := "PageMergerModel", name := "release", desc := "(I)I" } : Jvm.MethodName)) ∈ lw_all := lw_g (lw_at lw_m1 211 rfl) rfl
theorem q233 : (Jvm.Cond.methodLink "PageMergerLaw" (47 : Nat) ({ cls := "PageMergerModel", name := "scan", desc := "(I)V" } : Jvm.MethodName)) ∈ lw_all := lw_g (lw_at lw_m1 216 rfl) rfl
theorem q237 : (Jvm.Cond.methodLink "PageMergerLaw" (51 : Nat) ({ cls := "PageMergerModel", name := "read", desc := "(II)I" } : Jvm.MethodName)) ∈ lw_all := lw_g (lw_at lw_m1 220 rfl) rfl
theorem q241 : (Jvm.Cond.methodLink "PageMergerLaw" (56 : Nat) ({ cls := "PageMergerModel", name := "held", desc := "(I)Z" } : Jvm.MethodName)) ∈ lw_all := lw_g (lw_at lw_m1 224 rfl) rfl
theorem q245 : (Jvm.Cond.methodLink "PageMergerLaw" (61 : Nat) ({ cls := "PageMergerModel", name := "same", desc := "(II)Z" } : Jvm.MethodName)) ∈ lw_all := lw_g (lw_at lw_m1 228 rfl) rfl
theorem q249 : (Jvm.Cond.methodLink "PageMergerLaw" (66 : Nat) ({ cls := "PageMergerModel", name := "contents", desc := "()I" } : Jvm.MethodName)) ∈ lw_all := lw_g (lw_at lw_m1 232 rfl) rfl
theorem q259 : (Jvm.Cond.methodLink "PageMergerLaw" (70 : Nat) ({ cls := "PageMergerModel", name := "duplicates", desc := "()I" } : Jvm.MethodName)) ∈ lw_all := lw_g (lw_at lw_m2 2 rfl) rfl
theorem q263 : (Jvm.Cond.methodLink "PageMergerLaw" (74 : Nat) ({ cls := "PageMergerModel", name := "sum", desc := "(I)I" } : Jvm.MethodName)) ∈ lw_all := lw_g (lw_at lw_m2 6 rfl) rfl
theorem q267 : (Jvm.Cond.methodLink "PageMergerLaw" (78 : Nat) ({ cls := "PageMergerModel", name := "plain", desc := "()I" } : Jvm.MethodName)) ∈ lw_all := lw_g (lw_at lw_m2 10 rfl) rfl

/-! the law's own entry -/
set_option maxRecDepth 100000
abbrev cL_law : ByteArray := code
theorem dL_law_0 : decode cL_law 0 = .ok (.new 7, 3) := by decide +kernel
theorem dL_law_3 : decode cL_law 3 = .ok (.dup, 1) := by decide +kernel
theorem dL_law_4 : decode cL_law 4 = .ok (.aload_n 0, 1) := by decide +kernel
theorem dL_law_5 : decode cL_law 5 = .ok (.iconst 0, 1) := by decide +kernel
theorem dL_law_6 : decode cL_law 6 = .ok (.invokestatic 9, 3) := by decide +kernel
theorem dL_law_9 : decode cL_law 9 = .ok (.invokespecial 15, 3) := by decide +kernel
theorem dL_law_12 : decode cL_law 12 = .ok (.astore_n 1, 1) := by decide +kernel
theorem dL_law_13 : decode cL_law 13 = .ok (.new 18, 3) := by decide +kernel
theorem dL_law_16 : decode cL_law 16 = .ok (.dup, 1) := by decide +kernel
theorem dL_law_17 : decode cL_law 17 = .ok (.aload_n 0, 1) := by decide +kernel
theorem dL_law_18 : decode cL_law 18 = .ok (.iconst 0, 1) := by decide +kernel
theorem dL_law_19 : decode cL_law 19 = .ok (.invokestatic 9, 3) := by decide +kernel
theorem dL_law_22 : decode cL_law 22 = .ok (.invokespecial 20, 3) := by decide +kernel
theorem dL_law_25 : decode cL_law 25 = .ok (.astore_n 2, 1) := by decide +kernel
theorem dL_law_26 : decode cL_law 26 = .ok (.iconst 1, 1) := by decide +kernel
theorem dL_law_27 : decode cL_law 27 = .ok (.istore_n 3, 1) := by decide +kernel
theorem dL_law_28 : decode cL_law 28 = .ok (.iload_n 3, 1) := by decide +kernel
theorem dL_law_29 : decode cL_law 29 = .ok (.aload_n 0, 1) := by decide +kernel
theorem dL_law_30 : decode cL_law 30 = .ok (.arraylength, 1) := by decide +kernel
theorem dL_law_31 : decode cL_law 31 = .ok (.iconst 4, 1) := by decide +kernel
theorem dL_law_32 : decode cL_law 32 = .ok (.isub, 1) := by decide +kernel
theorem dL_law_33 : decode cL_law 33 = .ok (.if_icmp .gt 418, 3) := by decide +kernel
theorem dL_law_36 : decode cL_law 36 = .ok (.aload_n 0, 1) := by decide +kernel
theorem dL_law_37 : decode cL_law 37 = .ok (.iload_n 3, 1) := by decide +kernel
theorem dL_law_38 : decode cL_law 38 = .ok (.iaload, 1) := by decide +kernel
theorem dL_law_39 : decode cL_law 39 = .ok (.bipush 15, 2) := by decide +kernel
theorem dL_law_41 : decode cL_law 41 = .ok (.iand, 1) := by decide +kernel
theorem dL_law_42 : decode cL_law 42 = .ok (.tableswitch 403 0 12 #[66, 109, 142, 175, 208, 231, 252, 285, 308, 341, 354, 367, 390], 66) := by decide +kernel
theorem dL_law_108 : decode cL_law 108 = .ok (.aload_n 1, 1) := by decide +kernel
theorem dL_law_109 : decode cL_law 109 = .ok (.aload_n 0, 1) := by decide +kernel
theorem dL_law_110 : decode cL_law 110 = .ok (.iload_n 3, 1) := by decide +kernel
theorem dL_law_111 : decode cL_law 111 = .ok (.iconst 1, 1) := by decide +kernel
theorem dL_law_112 : decode cL_law 112 = .ok (.iadd, 1) := by decide +kernel
theorem dL_law_113 : decode cL_law 113 = .ok (.iaload, 1) := by decide +kernel
theorem dL_law_114 : decode cL_law 114 = .ok (.aload_n 0, 1) := by decide +kernel
theorem dL_law_115 : decode cL_law 115 = .ok (.iload_n 3, 1) := by decide +kernel
theorem dL_law_116 : decode cL_law 116 = .ok (.iconst 2, 1) := by decide +kernel
theorem dL_law_117 : decode cL_law 117 = .ok (.iadd, 1) := by decide +kernel
theorem dL_law_118 : decode cL_law 118 = .ok (.iaload, 1) := by decide +kernel
theorem dL_law_119 : decode cL_law 119 = .ok (.aload_n 0, 1) := by decide +kernel
theorem dL_law_120 : decode cL_law 120 = .ok (.iload_n 3, 1) := by decide +kernel
theorem dL_law_121 : decode cL_law 121 = .ok (.iconst 3, 1) := by decide +kernel
theorem dL_law_122 : decode cL_law 122 = .ok (.iadd, 1) := by decide +kernel
theorem dL_law_123 : decode cL_law 123 = .ok (.iaload, 1) := by decide +kernel
theorem dL_law_124 : decode cL_law 124 = .ok (.invokevirtual 21, 3) := by decide +kernel
theorem dL_law_127 : decode cL_law 127 = .ok (.aload_n 2, 1) := by decide +kernel
theorem dL_law_128 : decode cL_law 128 = .ok (.aload_n 0, 1) := by decide +kernel
theorem dL_law_129 : decode cL_law 129 = .ok (.iload_n 3, 1) := by decide +kernel
theorem dL_law_130 : decode cL_law 130 = .ok (.iconst 1, 1) := by decide +kernel
theorem dL_law_131 : decode cL_law 131 = .ok (.iadd, 1) := by decide +kernel
theorem dL_law_132 : decode cL_law 132 = .ok (.iaload, 1) := by decide +kernel
theorem dL_law_133 : decode cL_law 133 = .ok (.aload_n 0, 1) := by decide +kernel
theorem dL_law_134 : decode cL_law 134 = .ok (.iload_n 3, 1) := by decide +kernel
theorem dL_law_135 : decode cL_law 135 = .ok (.iconst 2, 1) := by decide +kernel
theorem dL_law_136 : decode cL_law 136 = .ok (.iadd, 1) := by decide +kernel
theorem dL_law_137 : decode cL_law 137 = .ok (.iaload, 1) := by decide +kernel
theorem dL_law_138 : decode cL_law 138 = .ok (.aload_n 0, 1) := by decide +kernel
theorem dL_law_139 : decode cL_law 139 = .ok (.iload_n 3, 1) := by decide +kernel
theorem dL_law_140 : decode cL_law 140 = .ok (.iconst 3, 1) := by decide +kernel
theorem dL_law_141 : decode cL_law 141 = .ok (.iadd, 1) := by decide +kernel
theorem dL_law_142 : decode cL_law 142 = .ok (.iaload, 1) := by decide +kernel
theorem dL_law_143 : decode cL_law 143 = .ok (.invokevirtual 25, 3) := by decide +kernel
theorem dL_law_146 : decode cL_law 146 = .ok (.if_icmp .eq 299, 3) := by decide +kernel
theorem dL_law_149 : decode cL_law 149 = .ok (.iconst 0, 1) := by decide +kernel
theorem dL_law_150 : decode cL_law 150 = .ok (.ireturn, 1) := by decide +kernel
theorem dL_law_151 : decode cL_law 151 = .ok (.aload_n 1, 1) := by decide +kernel
theorem dL_law_152 : decode cL_law 152 = .ok (.aload_n 0, 1) := by decide +kernel
theorem dL_law_153 : decode cL_law 153 = .ok (.iload_n 3, 1) := by decide +kernel
theorem dL_law_154 : decode cL_law 154 = .ok (.iconst 1, 1) := by decide +kernel
theorem dL_law_155 : decode cL_law 155 = .ok (.iadd, 1) := by decide +kernel
theorem dL_law_156 : decode cL_law 156 = .ok (.iaload, 1) := by decide +kernel
theorem dL_law_157 : decode cL_law 157 = .ok (.aload_n 0, 1) := by decide +kernel
theorem dL_law_158 : decode cL_law 158 = .ok (.iload_n 3, 1) := by decide +kernel
theorem dL_law_159 : decode cL_law 159 = .ok (.iconst 2, 1) := by decide +kernel
theorem dL_law_160 : decode cL_law 160 = .ok (.iadd, 1) := by decide +kernel
theorem dL_law_161 : decode cL_law 161 = .ok (.iaload, 1) := by decide +kernel
theorem dL_law_162 : decode cL_law 162 = .ok (.invokevirtual 26, 3) := by decide +kernel
theorem dL_law_165 : decode cL_law 165 = .ok (.aload_n 2, 1) := by decide +kernel
theorem dL_law_166 : decode cL_law 166 = .ok (.aload_n 0, 1) := by decide +kernel
theorem dL_law_167 : decode cL_law 167 = .ok (.iload_n 3, 1) := by decide +kernel
theorem dL_law_168 : decode cL_law 168 = .ok (.iconst 1, 1) := by decide +kernel
theorem dL_law_169 : decode cL_law 169 = .ok (.iadd, 1) := by decide +kernel
theorem dL_law_170 : decode cL_law 170 = .ok (.iaload, 1) := by decide +kernel
theorem dL_law_171 : decode cL_law 171 = .ok (.aload_n 0, 1) := by decide +kernel
theorem dL_law_172 : decode cL_law 172 = .ok (.iload_n 3, 1) := by decide +kernel
theorem dL_law_173 : decode cL_law 173 = .ok (.iconst 2, 1) := by decide +kernel
theorem dL_law_174 : decode cL_law 174 = .ok (.iadd, 1) := by decide +kernel
theorem dL_law_175 : decode cL_law 175 = .ok (.iaload, 1) := by decide +kernel
theorem dL_law_176 : decode cL_law 176 = .ok (.invokevirtual 30, 3) := by decide +kernel
theorem dL_law_179 : decode cL_law 179 = .ok (.if_icmp .eq 266, 3) := by decide +kernel
theorem dL_law_182 : decode cL_law 182 = .ok (.iconst 0, 1) := by decide +kernel
theorem dL_law_183 : decode cL_law 183 = .ok (.ireturn, 1) := by decide +kernel
theorem dL_law_184 : decode cL_law 184 = .ok (.aload_n 1, 1) := by decide +kernel
theorem dL_law_185 : decode cL_law 185 = .ok (.aload_n 0, 1) := by decide +kernel
theorem dL_law_186 : decode cL_law 186 = .ok (.iload_n 3, 1) := by decide +kernel
theorem dL_law_187 : decode cL_law 187 = .ok (.iconst 1, 1) := by decide +kernel
theorem dL_law_188 : decode cL_law 188 = .ok (.iadd, 1) := by decide +kernel
theorem dL_law_189 : decode cL_law 189 = .ok (.iaload, 1) := by decide +kernel
theorem dL_law_190 : decode cL_law 190 = .ok (.aload_n 0, 1) := by decide +kernel
theorem dL_law_191 : decode cL_law 191 = .ok (.iload_n 3, 1) := by decide +kernel
theorem dL_law_192 : decode cL_law 192 = .ok (.iconst 2, 1) := by decide +kernel
theorem dL_law_193 : decode cL_law 193 = .ok (.iadd, 1) := by decide +kernel
theorem dL_law_194 : decode cL_law 194 = .ok (.iaload, 1) := by decide +kernel
theorem dL_law_195 : decode cL_law 195 = .ok (.invokevirtual 31, 3) := by decide +kernel
theorem dL_law_198 : decode cL_law 198 = .ok (.aload_n 2, 1) := by decide +kernel
theorem dL_law_199 : decode cL_law 199 = .ok (.aload_n 0, 1) := by decide +kernel
theorem dL_law_200 : decode cL_law 200 = .ok (.iload_n 3, 1) := by decide +kernel
theorem dL_law_201 : decode cL_law 201 = .ok (.iconst 1, 1) := by decide +kernel
theorem dL_law_202 : decode cL_law 202 = .ok (.iadd, 1) := by decide +kernel
theorem dL_law_203 : decode cL_law 203 = .ok (.iaload, 1) := by decide +kernel
theorem dL_law_204 : decode cL_law 204 = .ok (.aload_n 0, 1) := by decide +kernel
theorem dL_law_205 : decode cL_law 205 = .ok (.iload_n 3, 1) := by decide +kernel
theorem dL_law_206 : decode cL_law 206 = .ok (.iconst 2, 1) := by decide +kernel
theorem dL_law_207 : decode cL_law 207 = .ok (.iadd, 1) := by decide +kernel
theorem dL_law_208 : decode cL_law 208 = .ok (.iaload, 1) := by decide +kernel
theorem dL_law_209 : decode cL_law 209 = .ok (.invokevirtual 34, 3) := by decide +kernel
theorem dL_law_212 : decode cL_law 212 = .ok (.if_icmp .eq 233, 3) := by decide +kernel
theorem dL_law_215 : decode cL_law 215 = .ok (.iconst 0, 1) := by decide +kernel
theorem dL_law_216 : decode cL_law 216 = .ok (.ireturn, 1) := by decide +kernel
theorem dL_law_217 : decode cL_law 217 = .ok (.aload_n 1, 1) := by decide +kernel
theorem dL_law_218 : decode cL_law 218 = .ok (.aload_n 0, 1) := by decide +kernel
theorem dL_law_219 : decode cL_law 219 = .ok (.iload_n 3, 1) := by decide +kernel
theorem dL_law_220 : decode cL_law 220 = .ok (.iconst 1, 1) := by decide +kernel
theorem dL_law_221 : decode cL_law 221 = .ok (.iadd, 1) := by decide +kernel
theorem dL_law_222 : decode cL_law 222 = .ok (.iaload, 1) := by decide +kernel
theorem dL_law_223 : decode cL_law 223 = .ok (.aload_n 0, 1) := by decide +kernel
theorem dL_law_224 : decode cL_law 224 = .ok (.iload_n 3, 1) := by decide +kernel
theorem dL_law_225 : decode cL_law 225 = .ok (.iconst 2, 1) := by decide +kernel
theorem dL_law_226 : decode cL_law 226 = .ok (.iadd, 1) := by decide +kernel
theorem dL_law_227 : decode cL_law 227 = .ok (.iaload, 1) := by decide +kernel
theorem dL_law_228 : decode cL_law 228 = .ok (.invokevirtual 35, 3) := by decide +kernel
theorem dL_law_231 : decode cL_law 231 = .ok (.aload_n 2, 1) := by decide +kernel
theorem dL_law_232 : decode cL_law 232 = .ok (.aload_n 0, 1) := by decide +kernel
theorem dL_law_233 : decode cL_law 233 = .ok (.iload_n 3, 1) := by decide +kernel
theorem dL_law_234 : decode cL_law 234 = .ok (.iconst 1, 1) := by decide +kernel
theorem dL_law_235 : decode cL_law 235 = .ok (.iadd, 1) := by decide +kernel
theorem dL_law_236 : decode cL_law 236 = .ok (.iaload, 1) := by decide +kernel
theorem dL_law_237 : decode cL_law 237 = .ok (.aload_n 0, 1) := by decide +kernel
theorem dL_law_238 : decode cL_law 238 = .ok (.iload_n 3, 1) := by decide +kernel
theorem dL_law_239 : decode cL_law 239 = .ok (.iconst 2, 1) := by decide +kernel
theorem dL_law_240 : decode cL_law 240 = .ok (.iadd, 1) := by decide +kernel
theorem dL_law_241 : decode cL_law 241 = .ok (.iaload, 1) := by decide +kernel
theorem dL_law_242 : decode cL_law 242 = .ok (.invokevirtual 38, 3) := by decide +kernel
theorem dL_law_245 : decode cL_law 245 = .ok (.if_icmp .eq 200, 3) := by decide +kernel
theorem dL_law_248 : decode cL_law 248 = .ok (.iconst 0, 1) := by decide +kernel
theorem dL_law_249 : decode cL_law 249 = .ok (.ireturn, 1) := by decide +kernel
theorem dL_law_250 : decode cL_law 250 = .ok (.aload_n 1, 1) := by decide +kernel
theorem dL_law_251 : decode cL_law 251 = .ok (.aload_n 0, 1) := by decide +kernel
theorem dL_law_252 : decode cL_law 252 = .ok (.iload_n 3, 1) := by decide +kernel
theorem dL_law_253 : decode cL_law 253 = .ok (.iconst 1, 1) := by decide +kernel
theorem dL_law_254 : decode cL_law 254 = .ok (.iadd, 1) := by decide +kernel
theorem dL_law_255 : decode cL_law 255 = .ok (.iaload, 1) := by decide +kernel
theorem dL_law_256 : decode cL_law 256 = .ok (.invokevirtual 39, 3) := by decide +kernel
theorem dL_law_259 : decode cL_law 259 = .ok (.aload_n 2, 1) := by decide +kernel
theorem dL_law_260 : decode cL_law 260 = .ok (.aload_n 0, 1) := by decide +kernel
theorem dL_law_261 : decode cL_law 261 = .ok (.iload_n 3, 1) := by decide +kernel
theorem dL_law_262 : decode cL_law 262 = .ok (.iconst 1, 1) := by decide +kernel
theorem dL_law_263 : decode cL_law 263 = .ok (.iadd, 1) := by decide +kernel
theorem dL_law_264 : decode cL_law 264 = .ok (.iaload, 1) := by decide +kernel
theorem dL_law_265 : decode cL_law 265 = .ok (.invokevirtual 43, 3) := by decide +kernel
theorem dL_law_268 : decode cL_law 268 = .ok (.if_icmp .eq 177, 3) := by decide +kernel
theorem dL_law_271 : decode cL_law 271 = .ok (.iconst 0, 1) := by decide +kernel
theorem dL_law_272 : decode cL_law 272 = .ok (.ireturn, 1) := by decide +kernel
theorem dL_law_273 : decode cL_law 273 = .ok (.aload_n 1, 1) := by decide +kernel
theorem dL_law_274 : decode cL_law 274 = .ok (.aload_n 0, 1) := by decide +kernel
theorem dL_law_275 : decode cL_law 275 = .ok (.iload_n 3, 1) := by decide +kernel
theorem dL_law_276 : decode cL_law 276 = .ok (.iconst 1, 1) := by decide +kernel
theorem dL_law_277 : decode cL_law 277 = .ok (.iadd, 1) := by decide +kernel
theorem dL_law_278 : decode cL_law 278 = .ok (.iaload, 1) := by decide +kernel
theorem dL_law_279 : decode cL_law 279 = .ok (.invokevirtual 44, 3) := by decide +kernel
theorem dL_law_282 : decode cL_law 282 = .ok (.aload_n 2, 1) := by decide +kernel
theorem dL_law_283 : decode cL_law 283 = .ok (.aload_n 0, 1) := by decide +kernel
theorem dL_law_284 : decode cL_law 284 = .ok (.iload_n 3, 1) := by decide +kernel
theorem dL_law_285 : decode cL_law 285 = .ok (.iconst 1, 1) := by decide +kernel
theorem dL_law_286 : decode cL_law 286 = .ok (.iadd, 1) := by decide +kernel
theorem dL_law_287 : decode cL_law 287 = .ok (.iaload, 1) := by decide +kernel
theorem dL_law_288 : decode cL_law 288 = .ok (.invokevirtual 47, 3) := by decide +kernel
theorem dL_law_291 : decode cL_law 291 = .ok (.goto 154, 3) := by decide +kernel
theorem dL_law_294 : decode cL_law 294 = .ok (.aload_n 1, 1) := by decide +kernel
theorem dL_law_295 : decode cL_law 295 = .ok (.aload_n 0, 1) := by decide +kernel
theorem dL_law_296 : decode cL_law 296 = .ok (.iload_n 3, 1) := by decide +kernel
theorem dL_law_297 : decode cL_law 297 = .ok (.iconst 1, 1) := by decide +kernel
theorem dL_law_298 : decode cL_law 298 = .ok (.iadd, 1) := by decide +kernel
theorem dL_law_299 : decode cL_law 299 = .ok (.iaload, 1) := by decide +kernel
theorem dL_law_300 : decode cL_law 300 = .ok (.aload_n 0, 1) := by decide +kernel
theorem dL_law_301 : decode cL_law 301 = .ok (.iload_n 3, 1) := by decide +kernel
theorem dL_law_302 : decode cL_law 302 = .ok (.iconst 2, 1) := by decide +kernel
theorem dL_law_303 : decode cL_law 303 = .ok (.iadd, 1) := by decide +kernel
theorem dL_law_304 : decode cL_law 304 = .ok (.iaload, 1) := by decide +kernel
theorem dL_law_305 : decode cL_law 305 = .ok (.invokevirtual 48, 3) := by decide +kernel
theorem dL_law_308 : decode cL_law 308 = .ok (.aload_n 2, 1) := by decide +kernel
theorem dL_law_309 : decode cL_law 309 = .ok (.aload_n 0, 1) := by decide +kernel
theorem dL_law_310 : decode cL_law 310 = .ok (.iload_n 3, 1) := by decide +kernel
theorem dL_law_311 : decode cL_law 311 = .ok (.iconst 1, 1) := by decide +kernel
theorem dL_law_312 : decode cL_law 312 = .ok (.iadd, 1) := by decide +kernel
theorem dL_law_313 : decode cL_law 313 = .ok (.iaload, 1) := by decide +kernel
theorem dL_law_314 : decode cL_law 314 = .ok (.aload_n 0, 1) := by decide +kernel
theorem dL_law_315 : decode cL_law 315 = .ok (.iload_n 3, 1) := by decide +kernel
theorem dL_law_316 : decode cL_law 316 = .ok (.iconst 2, 1) := by decide +kernel
theorem dL_law_317 : decode cL_law 317 = .ok (.iadd, 1) := by decide +kernel
theorem dL_law_318 : decode cL_law 318 = .ok (.iaload, 1) := by decide +kernel
theorem dL_law_319 : decode cL_law 319 = .ok (.invokevirtual 51, 3) := by decide +kernel
theorem dL_law_322 : decode cL_law 322 = .ok (.if_icmp .eq 123, 3) := by decide +kernel
theorem dL_law_325 : decode cL_law 325 = .ok (.iconst 0, 1) := by decide +kernel
theorem dL_law_326 : decode cL_law 326 = .ok (.ireturn, 1) := by decide +kernel
theorem dL_law_327 : decode cL_law 327 = .ok (.aload_n 1, 1) := by decide +kernel
theorem dL_law_328 : decode cL_law 328 = .ok (.aload_n 0, 1) := by decide +kernel
theorem dL_law_329 : decode cL_law 329 = .ok (.iload_n 3, 1) := by decide +kernel
theorem dL_law_330 : decode cL_law 330 = .ok (.iconst 1, 1) := by decide +kernel
theorem dL_law_331 : decode cL_law 331 = .ok (.iadd, 1) := by decide +kernel
theorem dL_law_332 : decode cL_law 332 = .ok (.iaload, 1) := by decide +kernel
theorem dL_law_333 : decode cL_law 333 = .ok (.invokevirtual 52, 3) := by decide +kernel
theorem dL_law_336 : decode cL_law 336 = .ok (.aload_n 2, 1) := by decide +kernel
theorem dL_law_337 : decode cL_law 337 = .ok (.aload_n 0, 1) := by decide +kernel
theorem dL_law_338 : decode cL_law 338 = .ok (.iload_n 3, 1) := by decide +kernel
theorem dL_law_339 : decode cL_law 339 = .ok (.iconst 1, 1) := by decide +kernel
theorem dL_law_340 : decode cL_law 340 = .ok (.iadd, 1) := by decide +kernel
theorem dL_law_341 : decode cL_law 341 = .ok (.iaload, 1) := by decide +kernel
theorem dL_law_342 : decode cL_law 342 = .ok (.invokevirtual 56, 3) := by decide +kernel
theorem dL_law_345 : decode cL_law 345 = .ok (.if_icmp .eq 100, 3) := by decide +kernel
theorem dL_law_348 : decode cL_law 348 = .ok (.iconst 0, 1) := by decide +kernel
theorem dL_law_349 : decode cL_law 349 = .ok (.ireturn, 1) := by decide +kernel
theorem dL_law_350 : decode cL_law 350 = .ok (.aload_n 1, 1) := by decide +kernel
theorem dL_law_351 : decode cL_law 351 = .ok (.aload_n 0, 1) := by decide +kernel
theorem dL_law_352 : decode cL_law 352 = .ok (.iload_n 3, 1) := by decide +kernel
theorem dL_law_353 : decode cL_law 353 = .ok (.iconst 1, 1) := by decide +kernel
theorem dL_law_354 : decode cL_law 354 = .ok (.iadd, 1) := by decide +kernel
theorem dL_law_355 : decode cL_law 355 = .ok (.iaload, 1) := by decide +kernel
theorem dL_law_356 : decode cL_law 356 = .ok (.aload_n 0, 1) := by decide +kernel
theorem dL_law_357 : decode cL_law 357 = .ok (.iload_n 3, 1) := by decide +kernel
theorem dL_law_358 : decode cL_law 358 = .ok (.iconst 2, 1) := by decide +kernel
theorem dL_law_359 : decode cL_law 359 = .ok (.iadd, 1) := by decide +kernel
theorem dL_law_360 : decode cL_law 360 = .ok (.iaload, 1) := by decide +kernel
theorem dL_law_361 : decode cL_law 361 = .ok (.invokevirtual 57, 3) := by decide +kernel
theorem dL_law_364 : decode cL_law 364 = .ok (.aload_n 2, 1) := by decide +kernel
theorem dL_law_365 : decode cL_law 365 = .ok (.aload_n 0, 1) := by decide +kernel
theorem dL_law_366 : decode cL_law 366 = .ok (.iload_n 3, 1) := by decide +kernel
theorem dL_law_367 : decode cL_law 367 = .ok (.iconst 1, 1) := by decide +kernel
theorem dL_law_368 : decode cL_law 368 = .ok (.iadd, 1) := by decide +kernel
theorem dL_law_369 : decode cL_law 369 = .ok (.iaload, 1) := by decide +kernel
theorem dL_law_370 : decode cL_law 370 = .ok (.aload_n 0, 1) := by decide +kernel
theorem dL_law_371 : decode cL_law 371 = .ok (.iload_n 3, 1) := by decide +kernel
theorem dL_law_372 : decode cL_law 372 = .ok (.iconst 2, 1) := by decide +kernel
theorem dL_law_373 : decode cL_law 373 = .ok (.iadd, 1) := by decide +kernel
theorem dL_law_374 : decode cL_law 374 = .ok (.iaload, 1) := by decide +kernel
theorem dL_law_375 : decode cL_law 375 = .ok (.invokevirtual 61, 3) := by decide +kernel
theorem dL_law_378 : decode cL_law 378 = .ok (.if_icmp .eq 67, 3) := by decide +kernel
theorem dL_law_381 : decode cL_law 381 = .ok (.iconst 0, 1) := by decide +kernel
theorem dL_law_382 : decode cL_law 382 = .ok (.ireturn, 1) := by decide +kernel
theorem dL_law_383 : decode cL_law 383 = .ok (.aload_n 1, 1) := by decide +kernel
theorem dL_law_384 : decode cL_law 384 = .ok (.invokevirtual 62, 3) := by decide +kernel
theorem dL_law_387 : decode cL_law 387 = .ok (.aload_n 2, 1) := by decide +kernel
theorem dL_law_388 : decode cL_law 388 = .ok (.invokevirtual 66, 3) := by decide +kernel
theorem dL_law_391 : decode cL_law 391 = .ok (.if_icmp .eq 54, 3) := by decide +kernel
theorem dL_law_394 : decode cL_law 394 = .ok (.iconst 0, 1) := by decide +kernel
theorem dL_law_395 : decode cL_law 395 = .ok (.ireturn, 1) := by decide +kernel
theorem dL_law_396 : decode cL_law 396 = .ok (.aload_n 1, 1) := by decide +kernel
theorem dL_law_397 : decode cL_law 397 = .ok (.invokevirtual 67, 3) := by decide +kernel
theorem dL_law_400 : decode cL_law 400 = .ok (.aload_n 2, 1) := by decide +kernel
theorem dL_law_401 : decode cL_law 401 = .ok (.invokevirtual 70, 3) := by decide +kernel
theorem dL_law_404 : decode cL_law 404 = .ok (.if_icmp .eq 41, 3) := by decide +kernel
theorem dL_law_407 : decode cL_law 407 = .ok (.iconst 0, 1) := by decide +kernel
theorem dL_law_408 : decode cL_law 408 = .ok (.ireturn, 1) := by decide +kernel
theorem dL_law_409 : decode cL_law 409 = .ok (.aload_n 1, 1) := by decide +kernel
theorem dL_law_410 : decode cL_law 410 = .ok (.aload_n 0, 1) := by decide +kernel
theorem dL_law_411 : decode cL_law 411 = .ok (.iload_n 3, 1) := by decide +kernel
theorem dL_law_412 : decode cL_law 412 = .ok (.iconst 1, 1) := by decide +kernel
theorem dL_law_413 : decode cL_law 413 = .ok (.iadd, 1) := by decide +kernel
theorem dL_law_414 : decode cL_law 414 = .ok (.iaload, 1) := by decide +kernel
theorem dL_law_415 : decode cL_law 415 = .ok (.invokevirtual 71, 3) := by decide +kernel
theorem dL_law_418 : decode cL_law 418 = .ok (.aload_n 2, 1) := by decide +kernel
theorem dL_law_419 : decode cL_law 419 = .ok (.aload_n 0, 1) := by decide +kernel
theorem dL_law_420 : decode cL_law 420 = .ok (.iload_n 3, 1) := by decide +kernel
theorem dL_law_421 : decode cL_law 421 = .ok (.iconst 1, 1) := by decide +kernel
theorem dL_law_422 : decode cL_law 422 = .ok (.iadd, 1) := by decide +kernel
theorem dL_law_423 : decode cL_law 423 = .ok (.iaload, 1) := by decide +kernel
theorem dL_law_424 : decode cL_law 424 = .ok (.invokevirtual 74, 3) := by decide +kernel
theorem dL_law_427 : decode cL_law 427 = .ok (.if_icmp .eq 18, 3) := by decide +kernel
theorem dL_law_430 : decode cL_law 430 = .ok (.iconst 0, 1) := by decide +kernel
theorem dL_law_431 : decode cL_law 431 = .ok (.ireturn, 1) := by decide +kernel
theorem dL_law_432 : decode cL_law 432 = .ok (.aload_n 1, 1) := by decide +kernel
theorem dL_law_433 : decode cL_law 433 = .ok (.invokevirtual 75, 3) := by decide +kernel
theorem dL_law_436 : decode cL_law 436 = .ok (.aload_n 2, 1) := by decide +kernel
theorem dL_law_437 : decode cL_law 437 = .ok (.invokevirtual 78, 3) := by decide +kernel
theorem dL_law_440 : decode cL_law 440 = .ok (.if_icmp .eq 5, 3) := by decide +kernel
theorem dL_law_443 : decode cL_law 443 = .ok (.iconst 0, 1) := by decide +kernel
theorem dL_law_444 : decode cL_law 444 = .ok (.ireturn, 1) := by decide +kernel
theorem dL_law_445 : decode cL_law 445 = .ok (.iinc 3 4, 3) := by decide +kernel
theorem dL_law_448 : decode cL_law 448 = .ok (.goto (-420), 3) := by decide +kernel
theorem dL_law_451 : decode cL_law 451 = .ok (.iconst 1, 1) := by decide +kernel
theorem dL_law_452 : decode cL_law 452 = .ok (.ireturn, 1) := by decide +kernel
end
section
/-! rows of mine: numbers and bools in cells, one world for every method of an object, calls -/
set_option maxRecDepth 100000
def pz_nF (f : Nat → Nat) : Nat → Int32 := fun j => nI (f j)
def pz_b (b : Bool) : Int32 := if b then 1 else 0
def pz_bF (f : Nat → Bool) : Nat → Int32 := fun j => pz_b (f j)
theorem pz_updN (f : Nat → Nat) (k v : Nat) : upd (pz_nF f) k (nI v) = pz_nF (va_up f k v) := by
  funext j
  by_cases h : j = k
  · simp [upd, pz_nF, va_up, h]
  · simp [upd, pz_nF, va_up, h]
theorem pz_updB (f : Nat → Bool) (k : Nat) (b : Bool) : upd (pz_bF f) k (pz_b b) = pz_bF (va_up f k b) := by
  funext j
  by_cases h : j = k
  · simp [upd, pz_bF, va_up, h]
  · simp [upd, pz_bF, va_up, h]
theorem pz_narB (b : Bool) : vp_nar .boolean (pz_b b) = pz_b b := by cases b <;> rfl
theorem pz_b0 (b : Bool) : pz_b b = 0 ↔ b = false := by cases b <;> decide +kernel
abbrev pz_G : Type := va_G × ClassId × ClassId
abbrev pz_cl : List vw_C := [(RX1, TX1, 14), (RX2, TX2, 2)]
abbrev pz_ty (g : pz_G) : List (ClassId × FieldType) := [(g.2.1, .int), (g.2.2, .boolean)]
/-- the walk's world: the tables, the cells of the state, apart, what else is unchanged -/
def pz_C {S : Type} (Wd : S → va_W) (g : pz_G) (A : Nat → Prop) (s : State) (σ : S) (H : Heap) (locs : List Loc) : Prop :=
  va_K g.1 pz_cl (pz_ty g) s ∧ va_P g.1 pz_cl (Wd σ) H ∧ va_D A (Wd σ) ∧ va_S A s.heap H locs
def pz_Pc {S : Type} (Wd : S → va_W) (g : pz_G) (σ : S) (sz : Nat) (av : List Value) : Array Value → State → Prop :=
  va_Pc av (fun U => U.heap.size = sz ∧ va_P g.1 pz_cl (Wd σ) U.heap ∧ va_K g.1 pz_cl (pz_ty g) U ∧ va_D (fun _ => True) (Wd σ))
def pz_B {S : Type} (Wd : S → va_W) (g : pz_G) (A : Nat → Prop) (u : S) (t : State) : Prop :=
  va_P g.1 pz_cl (Wd u) t.heap ∧ va_K g.1 pz_cl (pz_ty g) t ∧ va_D A (Wd u)
/-- contracts over one world: answer an int (or boolean), or none -/
def pz_Mi (l : Launch) (y : MethodName) (b : ByteArray) (L : Nat) (ty : FieldType) (rm : Room) {S : Type} (Wd : S → va_W) (g : pz_G) (σ : S) (av : List Value) (post : Int32 → S → Prop) : Prop :=
  ∀ sz : Nat, Met l y (ws_ y b L (some ty)) rm (pz_Pc Wd g σ sz av) (va_Qi post (pz_B Wd g (va_A (Wd σ) sz)) (va_A (Wd σ) sz)) 0 0 (va_A (Wd σ) sz)
def pz_Mv (l : Launch) (y : MethodName) (b : ByteArray) (L : Nat) (rm : Room) {S : Type} (Wd : S → va_W) (g : pz_G) (σ : S) (av : List Value) (post : S → Prop) : Prop :=
  ∀ sz : Nat, Met l y (ws_ y b L none) rm (pz_Pc Wd g σ sz av) (va_Qv post (pz_B Wd g (va_A (Wd σ) sz)) (va_A (Wd σ) sz)) 0 0 (va_A (Wd σ) sz)
/-- a static method over no world -/
def pz_Si (l : Launch) (y : MethodName) (b : ByteArray) (L : Nat) (ty : FieldType) (rm : Room) (av : List Value) (post : Int32 → Prop) : Prop :=
  Met l y (ws_ y b L (some ty)) rm (va_Pc av (fun _ => True)) (va_Qi (fun r (_ : Unit) => post r) (fun _ _ => True) (fun _ => False)) 0 0 (fun _ => False)
/-- what a call through an object asks of the tables -/
def pz_In (own : String) (idx : Nat) (y : MethodName) (C : String) (b : ByteArray) (L : Nat) (ret : Option FieldType) (n : Nat) : Prop :=
  Cond.methodLink own idx y ∈ lw_all ∧ Cond.instanceMethod y ∈ lw_all ∧ Cond.selects C y y ∈ lw_all ∧ Cond.initialized C ∈ lw_all ∧ Cond.code y b L ret ∈ lw_all ∧
  (y.cls = C ∧ y.cls ≠ "java/lang/invoke/MethodHandle" ∧ y.cls ≠ "java/lang/invoke/VarHandle" ∧ (parseMethodDescriptor y.desc).map (fun d => d.parameters.length) = some n)
def pz_InS (own : String) (idx : Nat) (y : MethodName) (b : ByteArray) (L : Nat) (ret : Option FieldType) (n : Nat) : Prop :=
  Cond.methodLink own idx y ∈ lw_all ∧ Cond.static y ∈ lw_all ∧ Cond.initialized y.cls ∈ lw_all ∧ Cond.code y b L ret ∈ lw_all ∧
  (y.cls ≠ "java/lang/invoke/MethodHandle" ∧ y.cls ≠ "java/lang/invoke/VarHandle" ∧ (parseMethodDescriptor y.desc).map (fun d => d.parameters.length) = some n)
section PZ
variable {p : Program} {l : Launch} {e : Env} {R : Room} {s : State} {m : MethodId} {args : Array Value} {below : List Frame} {meth : Method} {c : Code} {H : Heap} {locs : List Loc} {cells slots : Nat} {Q : State → Prop}
variable {cc : ByteArray} {pc : Nat} {ls : Array Slot} {rest : List Value} {S : Type} {Wd : S → va_W} {g : pz_G} {A : Nat → Prop} {σ : S} {own : String} {nL : Nat}
theorem pz_iaddN (M : CallFix p m c cc nL s args lw_all own) {a b : Nat} (hdg : decode cc pc = .ok (.iadd, 1)) (kk : W p l e R s m args below meth c H locs cells slots Q (F0 m (pc + 1) ls (.int (nI (a + b)) :: rest))) : W p l e R s m args below meth c H locs cells slots Q (F0 m pc ls (.int (nI b) :: .int (nI a) :: rest)) := lv_iadd M.1 M.2.1 hdg (by rw [nI_add a b]; exact kk)
theorem pz_imulN (M : CallFix p m c cc nL s args lw_all own) {a b : Nat} (hdg : decode cc pc = .ok (.imul, 1)) (kk : W p l e R s m args below meth c H locs cells slots Q (F0 m (pc + 1) ls (.int (nI (a * b)) :: rest))) : W p l e R s m args below meth c H locs cells slots Q (F0 m pc ls (.int (nI b) :: .int (nI a) :: rest)) := lv_imul M.1 M.2.1 hdg (by rw [pk_mul a b]; exact kk)
theorem pz_isubN (M : CallFix p m c cc nL s args lw_all own) {a b : Nat} (h : b ≤ a) (hdg : decode cc pc = .ok (.isub, 1)) (kk : W p l e R s m args below meth c H locs cells slots Q (F0 m (pc + 1) ls (.int (nI (a - b)) :: rest))) : W p l e R s m args below meth c H locs cells slots Q (F0 m pc ls (.int (nI b) :: .int (nI a) :: rest)) := lv_isub M.1 M.2.1 hdg (by rw [pk_sub h]; exact kk)
theorem pz_ceq (M : CallFix p m c cc nL s args lw_all own) {a b : Nat} (ha : a < 2 ^ 31) (hb : b < 2 ^ 31) {off : Int} {tgt : Nat} (hdg : decode cc pc = .ok (.if_icmp .eq off, 3)) (ht : (pc : Int) + off = (tgt : Int)) (kt : a = b → W p l e R s m args below meth c H locs cells slots Q (F0 m tgt ls rest)) (kf : a ≠ b → W p l e R s m args below meth c H locs cells slots Q (F0 m (pc + 3) ls rest)) : W p l e R s m args below meth c H locs cells slots Q (F0 m pc ls (.int (nI b) :: .int (nI a) :: rest)) := lv_icmp_eq M.1 M.2.1 hdg ht (fun h => kt ((nI_eq ha hb).mp h)) (fun h => kf (fun q => h ((nI_eq ha hb).mpr q)))
theorem pz_cne (M : CallFix p m c cc nL s args lw_all own) {a b : Nat} (ha : a < 2 ^ 31) (hb : b < 2 ^ 31) {off : Int} {tgt : Nat} (hdg : decode cc pc = .ok (.if_icmp .ne off, 3)) (ht : (pc : Int) + off = (tgt : Int)) (kt : a ≠ b → W p l e R s m args below meth c H locs cells slots Q (F0 m tgt ls rest)) (kf : a = b → W p l e R s m args below meth c H locs cells slots Q (F0 m (pc + 3) ls rest)) : W p l e R s m args below meth c H locs cells slots Q (F0 m pc ls (.int (nI b) :: .int (nI a) :: rest)) := lv_icmp_ne M.1 M.2.1 hdg ht (fun h => kt (fun q => h ((nI_eq ha hb).mpr q))) (fun h => kf ((nI_eq ha hb).mp h))
theorem pz_clt (M : CallFix p m c cc nL s args lw_all own) {a b : Nat} (ha : a < 2 ^ 31) (hb : b < 2 ^ 31) {off : Int} {tgt : Nat} (hdg : decode cc pc = .ok (.if_icmp .lt off, 3)) (ht : (pc : Int) + off = (tgt : Int)) (kt : a < b → W p l e R s m args below meth c H locs cells slots Q (F0 m tgt ls rest)) (kf : b ≤ a → W p l e R s m args below meth c H locs cells slots Q (F0 m (pc + 3) ls rest)) : W p l e R s m args below meth c H locs cells slots Q (F0 m pc ls (.int (nI b) :: .int (nI a) :: rest)) := lv_icmp_lt M.1 M.2.1 hdg ht (fun h => kt ((nI_ltI ha hb).mp h)) (fun h => kf (Nat.not_lt.mp (fun q => h ((nI_ltI ha hb).mpr q))))
theorem pz_cge (M : CallFix p m c cc nL s args lw_all own) {a b : Nat} (ha : a < 2 ^ 31) (hb : b < 2 ^ 31) {off : Int} {tgt : Nat} (hdg : decode cc pc = .ok (.if_icmp .ge off, 3)) (ht : (pc : Int) + off = (tgt : Int)) (kt : b ≤ a → W p l e R s m args below meth c H locs cells slots Q (F0 m tgt ls rest)) (kf : a < b → W p l e R s m args below meth c H locs cells slots Q (F0 m (pc + 3) ls rest)) : W p l e R s m args below meth c H locs cells slots Q (F0 m pc ls (.int (nI b) :: .int (nI a) :: rest)) := lv_icmp_ge M.1 M.2.1 hdg ht (fun h => kt ((nI_leI hb ha).mp h)) (fun h => kf (Nat.not_le.mp (fun q => h ((nI_leI hb ha).mpr q))))
theorem pz_cgt (M : CallFix p m c cc nL s args lw_all own) {a b : Nat} (ha : a < 2 ^ 31) (hb : b < 2 ^ 31) {off : Int} {tgt : Nat} (hdg : decode cc pc = .ok (.if_icmp .gt off, 3)) (ht : (pc : Int) + off = (tgt : Int)) (kt : b < a → W p l e R s m args below meth c H locs cells slots Q (F0 m tgt ls rest)) (kf : a ≤ b → W p l e R s m args below meth c H locs cells slots Q (F0 m (pc + 3) ls rest)) : W p l e R s m args below meth c H locs cells slots Q (F0 m pc ls (.int (nI b) :: .int (nI a) :: rest)) := lv_icmp_gt M.1 M.2.1 hdg ht (fun h => kt ((nI_ltI hb ha).mp h)) (fun h => kf (Nat.not_lt.mp (fun q => h ((nI_ltI hb ha).mpr q))))
theorem pz_cle (M : CallFix p m c cc nL s args lw_all own) {a b : Nat} (ha : a < 2 ^ 31) (hb : b < 2 ^ 31) {off : Int} {tgt : Nat} (hdg : decode cc pc = .ok (.if_icmp .le off, 3)) (ht : (pc : Int) + off = (tgt : Int)) (kt : a ≤ b → W p l e R s m args below meth c H locs cells slots Q (F0 m tgt ls rest)) (kf : b < a → W p l e R s m args below meth c H locs cells slots Q (F0 m (pc + 3) ls rest)) : W p l e R s m args below meth c H locs cells slots Q (F0 m pc ls (.int (nI b) :: .int (nI a) :: rest)) := lv_icmp_le M.1 M.2.1 hdg ht (fun h => kt ((nI_leI ha hb).mp h)) (fun h => kf (Nat.not_le.mp (fun q => h ((nI_leI ha hb).mpr q))))
theorem pz_zeq (M : CallFix p m c cc nL s args lw_all own) {a : Nat} (ha : a < 2 ^ 31) {off : Int} {tgt : Nat} (hdg : decode cc pc = .ok (.ifCond .eq off, 3)) (ht : (pc : Int) + off = (tgt : Int)) (kt : a = 0 → W p l e R s m args below meth c H locs cells slots Q (F0 m tgt ls rest)) (kf : a ≠ 0 → W p l e R s m args below meth c H locs cells slots Q (F0 m (pc + 3) ls rest)) : W p l e R s m args below meth c H locs cells slots Q (F0 m pc ls (.int (nI a) :: rest)) := lv_if_eq M.1 M.2.1 hdg ht (fun h => kt ((nI_eq ha (b := 0) (by decide)).mp (h.trans nI_0.symm))) (fun h => kf (fun q => h (by rw [q]; exact nI_0)))
theorem pz_beq (M : CallFix p m c cc nL s args lw_all own) {a : Bool} {off : Int} {tgt : Nat} (hdg : decode cc pc = .ok (.ifCond .eq off, 3)) (ht : (pc : Int) + off = (tgt : Int)) (kt : a = false → W p l e R s m args below meth c H locs cells slots Q (F0 m tgt ls rest)) (kf : a = true → W p l e R s m args below meth c H locs cells slots Q (F0 m (pc + 3) ls rest)) : W p l e R s m args below meth c H locs cells slots Q (F0 m pc ls (.int (pz_b a) :: rest)) := lv_if_eq M.1 M.2.1 hdg ht (fun h => kt ((pz_b0 a).mp h)) (fun h => kf (by cases a; exact absurd rfl h; rfl))
theorem pz_zne (M : CallFix p m c cc nL s args lw_all own) {a : Nat} (ha : a < 2 ^ 31) {off : Int} {tgt : Nat} (hdg : decode cc pc = .ok (.ifCond .ne off, 3)) (ht : (pc : Int) + off = (tgt : Int)) (kt : a ≠ 0 → W p l e R s m args below meth c H locs cells slots Q (F0 m tgt ls rest)) (kf : a = 0 → W p l e R s m args below meth c H locs cells slots Q (F0 m (pc + 3) ls rest)) : W p l e R s m args below meth c H locs cells slots Q (F0 m pc ls (.int (nI a) :: rest)) := lv_if_ne M.1 M.2.1 hdg ht (fun h => kt (fun q => h (by rw [q]; exact nI_0))) (fun h => kf ((nI_eq ha (b := 0) (by decide)).mp (h.trans nI_0.symm)))
theorem pz_bne (M : CallFix p m c cc nL s args lw_all own) {a : Bool} {off : Int} {tgt : Nat} (hdg : decode cc pc = .ok (.ifCond .ne off, 3)) (ht : (pc : Int) + off = (tgt : Int)) (kt : a = true → W p l e R s m args below meth c H locs cells slots Q (F0 m tgt ls rest)) (kf : a = false → W p l e R s m args below meth c H locs cells slots Q (F0 m (pc + 3) ls rest)) : W p l e R s m args below meth c H locs cells slots Q (F0 m pc ls (.int (pz_b a) :: rest)) := lv_if_ne M.1 M.2.1 hdg ht (fun h => kt (by cases a; exact absurd rfl h; rfl)) (fun h => kf ((pz_b0 a).mp h))
theorem pz_zle (M : CallFix p m c cc nL s args lw_all own) {a : Nat} (ha : a < 2 ^ 31) {off : Int} {tgt : Nat} (hdg : decode cc pc = .ok (.ifCond .le off, 3)) (ht : (pc : Int) + off = (tgt : Int)) (kt : a = 0 → W p l e R s m args below meth c H locs cells slots Q (F0 m tgt ls rest)) (kf : 0 < a → W p l e R s m args below meth c H locs cells slots Q (F0 m (pc + 3) ls rest)) : W p l e R s m args below meth c H locs cells slots Q (F0 m pc ls (.int (nI a) :: rest)) := lv_if_le M.1 M.2.1 hdg ht (fun h => kt (by rcases Nat.eq_zero_or_pos a with q | q; exact q; exact absurd h (nI_nle q ha))) (fun h => kf (Nat.pos_of_ne_zero (fun q => h (by rw [q, nI_0]; decide +kernel))))
theorem pz_iinc1 (M : CallFix p m c cc nL s args lw_all own) {i k a nV : Nat} {lv lv' : List (Nat × Value)} (hdg : decode cc pc = .ok (.iinc i 1, 3)) (h : lv_has ls nV lv) (hk : lv[k]? = some (i, .int (nI a))) (hn : i < nV) (hl : (i, Value.int (nI (a + 1))) :: lv.filter (fun q => !(q.1 == i) && !(q.1 + 1 == i && q.2.category == 2)) = lv')
    (kk : ∀ ls' : Array Slot, lv_has ls' nV lv' → W p l e R s m args below meth c H locs cells slots Q (F0 m (pc + 3) ls' rest)) : W p l e R s m args below meth c H locs cells slots Q (F0 m pc ls rest) := lv_iinc M.1 M.2.1 hdg h hk (v := nI (a + 1)) (nI_add a 1) hn hl kk
theorem pz_iinc4 (M : CallFix p m c cc nL s args lw_all own) {i k a nV : Nat} {lv lv' : List (Nat × Value)} (hdg : decode cc pc = .ok (.iinc i 4, 3)) (h : lv_has ls nV lv) (hk : lv[k]? = some (i, .int (nI a))) (hn : i < nV) (hl : (i, Value.int (nI (a + 4))) :: lv.filter (fun q => !(q.1 == i) && !(q.1 + 1 == i && q.2.category == 2)) = lv')
    (kk : ∀ ls' : Array Slot, lv_has ls' nV lv' → W p l e R s m args below meth c H locs cells slots Q (F0 m (pc + 3) ls' rest)) : W p l e R s m args below meth c H locs cells slots Q (F0 m pc ls rest) := lv_iinc M.1 M.2.1 hdg h hk (v := nI (a + 4)) (nI_add a 4) hn hl kk
theorem pz_reti (M : CallFix p m c cc nL s args lw_all own) {ty : FieldType} (hr : meth.sig.returnType = some ty) (hlocks : meth.locks = false) (C : pz_C Wd g A s σ H locs) {v : Int32} {post : Int32 → S → Prop} (hn : narrow ty (.int v) = .int v) (hdg : decode cc pc = .ok (.ireturn, 1)) (hp : post v σ) : W p l e R s m args below meth c H locs 0 0 (MQ below (va_Qi post (pz_B Wd g A) A) args s 0 0 A) (F0 m pc ls [.int v]) :=
  W.zret M.1 M.2.1 hr hn (fun t ht hW => ⟨⟨v, σ, rfl, hp, by rw [ht]; exact C.2.1, va_K.moved hW.alike C.1, C.2.2.1⟩, C.2.2.2.F ht⟩) C.2.2.2.2.2 hdg hlocks
theorem pz_retv (M : CallFix p m c cc nL s args lw_all own) (hr : meth.sig.returnType = none) (hlocks : meth.locks = false) (C : pz_C Wd g A s σ H locs) {post : S → Prop} (hdg : decode cc pc = .ok (.return_, 1)) (hp : post σ) : W p l e R s m args below meth c H locs 0 0 (MQ below (va_Qv post (pz_B Wd g A) A) args s 0 0 A) (F0 m pc ls []) :=
  W.vret M.1 M.2.1 hr (fun t ht hW => ⟨⟨σ, rfl, hp, by rw [ht]; exact C.2.1, va_K.moved hW.alike C.1, C.2.2.1⟩, C.2.2.2.F ht⟩) C.2.2.2.2.2 hdg hlocks
theorem pz_rets (M : CallFix p m c cc nL s args lw_all own) {ty : FieldType} (hr : meth.sig.returnType = some ty) (hlocks : meth.locks = false) {v : Int32} {post : Int32 → Prop} (hn : narrow ty (.int v) = .int v) (hdg : decode cc pc = .ok (.ireturn, 1)) (hp : post v) : W p l e R s m args below meth c s.heap [] 0 0 (MQ below (va_Qi (fun r (_ : Unit) => post r) (fun _ _ => True) (fun _ => False)) args s 0 0 (fun _ => False)) (F0 m pc ls [.int v]) :=
  W.zret M.1 M.2.1 hr hn (fun t ht hW => ⟨⟨v, (), rfl, hp, trivial⟩, by rw [ht]; exact Nat.le_refl _, fun q _ _ => by rw [ht]⟩) (fun q h => by cases h) hdg hlocks
theorem pz_narN (v : Int32) : narrow .int (.int v) = .int v := rfl
theorem pz_narZ (b : Bool) : narrow .boolean (.int (pz_b b)) = .int (pz_b b) := by cases b <;> rfl
theorem pz_freeA (hA : ∀ q : Nat, s.heap.size ≤ q → A q) (C : pz_C Wd g A s σ H locs) : ∀ q, va_A (Wd σ) H.size q → A q := by
  intro q h
  rcases h with ⟨k, e, h⟩ | h
  · exact C.2.2.1.2 k _ h
  · exact hA q (Nat.le_trans C.2.2.2.1 h)
theorem pz_preV (C : pz_C Wd g A s σ H locs) {a0 ci : Nat} {fs : List Value} {qc : vw_C} (h0 : (Wd σ)[0]? = some (a0, .inr (ci, fs))) (hc : pz_cl[ci]? = some qc) (As : List Value) : PreV s H qc.1 a0 (pz_Pc Wd g σ H.size (.ref a0 :: As)) As :=
  ⟨fun a U g mk q => by obtain ⟨q0, q1, qP, qK, qD⟩ := q; exact ⟨q0, q1, qP, va_K.moved (u := U) (U := U.calling g mk a) (Vm.Alike.refl U.vm) qK, qD⟩, va_recv C.1 C.2.1 hc h0, fun U hU hW => ⟨rfl, by rw [hU], by rw [hU]; exact C.2.1, va_K.moved hW.alike C.1, C.2.2.1.weaken (fun _ _ _ _ => trivial)⟩⟩
variable {y : MethodName} {b : ByteArray} {L n idx : Nat} {ty : FieldType} {rm : Room} {As st : List Value} {a0 ci : Nat} {fs : List Value} {qc : vw_C}
theorem pz_calli (M : CallFix p m c cc nL s args lw_all own) (hA : ∀ q : Nat, s.heap.size ≤ q → A q) (C : pz_C Wd g A s σ H locs) (h0 : (Wd σ)[0]? = some (a0, .inr (ci, fs))) (hc : pz_cl[ci]? = some qc) (I : pz_In own idx y qc.1 b L (some ty) n) {post : Int32 → S → Prop} (hM : pz_Mi l y b L ty rm Wd g σ (.ref a0 :: As) post) (hR : rm.frames + 1 ≤ R.frames ∧ 8 + (L + 11) + rm.locals ≤ R.locals) (hz : rm.cells = 0 ∧ rm.slots = 0) (hn : As.length = n) (hl : ls.size = nL) (hst : st = As.reverse ++ .ref a0 :: rest) (hW : (rest.map fun v => v.category).sum ≤ 8) (hdg : decode cc pc = .ok (.invokevirtual idx, 3)) (hf : cells + 0 ≤ R.cells ∧ slots + 0 ≤ R.slots)
    (kk : ∀ (r : Int32) (u : S) (H1 : Heap) (locs1 : List Loc), post r u → pz_C Wd g A s u H1 locs1 → W p l e R s m args below meth c H1 locs1 cells slots Q (F0 m (pc + 3) ls (.int r :: rest))) : W p l e R s m args below meth c H locs cells slots Q (F0 m pc ls st) := by
  obtain ⟨i1, i2, i3, i4, i5, i6⟩ := I
  have hFc := pz_freeA hA C
  refine va_calli (va_runV (As := As) (rest := rest) M (hM H.size) (cwV n M.2.2.2.2 (lw_V i1 i2 i3 i4 i5) rfl hz.1 hz.2 i6 hR) (pz_preV C h0 hc As) rfl hn hl hst (lv_room hW) hdg hf) C.2.2.2 (fun q _ h => hFc q h) hFc (fun r u t H1 locs1 ht hvm hw hB hz hk hS => ?_)
  obtain ⟨hP1, hK1, hD1⟩ := hB
  rw [ht] at hP1
  exact kk r u H1 locs1 hw ⟨va_K.moved hvm.symm hK1, hP1, hD1.weaken (fun k q _ h => hFc q.1 h), hS⟩
theorem pz_callv (M : CallFix p m c cc nL s args lw_all own) (hA : ∀ q : Nat, s.heap.size ≤ q → A q) (C : pz_C Wd g A s σ H locs) (h0 : (Wd σ)[0]? = some (a0, .inr (ci, fs))) (hc : pz_cl[ci]? = some qc) (I : pz_In own idx y qc.1 b L none n) {post : S → Prop} (hM : pz_Mv l y b L rm Wd g σ (.ref a0 :: As) post) (hR : rm.frames + 1 ≤ R.frames ∧ 8 + (L + 11) + rm.locals ≤ R.locals) (hz : rm.cells = 0 ∧ rm.slots = 0) (hn : As.length = n) (hl : ls.size = nL) (hst : st = As.reverse ++ .ref a0 :: rest) (hW : (rest.map fun v => v.category).sum ≤ 8) (hdg : decode cc pc = .ok (.invokevirtual idx, 3)) (hf : cells + 0 ≤ R.cells ∧ slots + 0 ≤ R.slots)
    (kk : ∀ (u : S) (H1 : Heap) (locs1 : List Loc), post u → pz_C Wd g A s u H1 locs1 → W p l e R s m args below meth c H1 locs1 cells slots Q (F0 m (pc + 3) ls rest)) : W p l e R s m args below meth c H locs cells slots Q (F0 m pc ls st) := by
  obtain ⟨i1, i2, i3, i4, i5, i6⟩ := I
  have hFc := pz_freeA hA C
  refine va_callv (va_runV (As := As) (rest := rest) M (hM H.size) (cwV n M.2.2.2.2 (lw_V i1 i2 i3 i4 i5) rfl hz.1 hz.2 i6 hR) (pz_preV C h0 hc As) rfl hn hl hst (lv_room hW) hdg hf) C.2.2.2 (fun q _ h => hFc q h) hFc (fun u t H1 locs1 ht hvm hw hB hz hk hS => ?_)
  obtain ⟨hP1, hK1, hD1⟩ := hB
  rw [ht] at hP1
  exact kk u H1 locs1 hw ⟨va_K.moved hvm.symm hK1, hP1, hD1.weaken (fun k q _ h => hFc q.1 h), hS⟩
theorem pz_calls (M : CallFix p m c cc nL s args lw_all own) (C : pz_C Wd g A s σ H locs) (I : pz_InS own idx y b L (some ty) n) {post : Int32 → Prop} (hM : pz_Si l y b L ty rm As post) (hR : rm.frames + 1 ≤ R.frames ∧ 8 + (L + 11) + rm.locals ≤ R.locals) (hz : rm.cells = 0 ∧ rm.slots = 0) (hn : As.length = n) (hl : ls.size = nL) (hst : st = As.reverse ++ rest) (hW : (rest.map fun v => v.category).sum ≤ 8) (hdg : decode cc pc = .ok (.invokestatic idx, 3)) (hf : cells + 0 ≤ R.cells ∧ slots + 0 ≤ R.slots)
    (kk : ∀ (r : Int32) (H1 : Heap) (locs1 : List Loc), post r → pz_C Wd g A s σ H1 locs1 → W p l e R s m args below meth c H1 locs1 cells slots Q (F0 m (pc + 3) ls (.int r :: rest))) : W p l e R s m args below meth c H locs cells slots Q (F0 m pc ls st) := by
  obtain ⟨i1, i2, i3, i4, i6⟩ := I
  refine va_calli (va_runS (As := As) (rest := rest) M hM (va_cwS n M.2.2.2.2 (lw_S i1 i2 i3 i4) rfl hz.1 hz.2 i6 hR) ⟨fun a U g mk q => q, fun U hU hW => ⟨rfl, trivial⟩⟩ rfl hn hl hst (lv_room hW) hdg hf) C.2.2.2 (fun q _ h => h.elim) (fun q h => h.elim) (fun r u t H1 locs1 ht hvm hw hB hz hk hS => ?_)
  exact kk r H1 locs1 hw ⟨C.1, C.2.1.kept (fun k q hq => hk q.1 ((C.2.1 k q hq).lt) (fun h => h)), C.2.2.1, hS⟩

end PZ
theorem pz_enterI {l : Launch} {y : MethodName} {b : ByteArray} {L : Nat} {ty : FieldType} {rm : Room} {S : Type} {Wd : S → va_W} {g : pz_G} {σ : S} {av : List Value} {post : Int32 → S → Prop} (hy : plainName y.cls = true) (hL : (lg_sl av).length ≤ L)
    (body : ∀ (p : Program) (e : Env) (s : State) (m : MethodId) (args : Array Value) (below : List Frame) (meth : Method) (c : Code) (A : Nat → Prop) (Q : State → Prop), CallFix p m c b L s args lw_all y.cls → (∀ q : Nat, s.heap.size ≤ q → A q) →
      (∀ (H : Heap) (locs : List Loc) (u : S) (v : Int32) (pc : Nat) (ls : Array Slot), pz_C Wd g A s u H locs → decode b pc = .ok (.ireturn, 1) → narrow ty (.int v) = .int v → post v u → W p l e rm s m args below meth c H locs 0 0 Q (F0 m pc ls [.int v])) →
      pz_C Wd g A s σ s.heap [] → ∀ ls : Array Slot, lv_has ls L (lv_args 0 av) → W p l e rm s m args below meth c s.heap [] 0 0 Q (F0 m 0 ls [])) : pz_Mi l y b L ty rm Wd g σ av post := by
  intro sz
  refine Met.ofW (cc := b) (maxL := L) (ret := some ty) hy rfl ?_
  intro p e s m args below meth c s₁ B hml hv
  obtain ⟨rfl, hsz, hP, hK, hD0⟩ := hv
  have hts := atoms_spec (ws := ws_ y b L (some ty)) B.pre
  have hts : ∀ w ∈ lw_all, w.before _ s = true := fun w h => hts w (List.mem_cons_of_mem _ h)
  have hown : s.vm.findClass y.cls = some m.cls := findClass_of_methodNamed B.named
  have hr := B.returns
  have hlk := B.notSynchronized
  subst hsz
  have hl := lv_entry av (n := L) hL
  rw [lg_entry_eq]
  have M : CallFix p m c b L s av.toArray lw_all y.cls := ⟨B.exec, B.bytes, hml, hown, hts⟩
  exact body p e s m _ below meth c _ _ M (fun q h => Or.inr h) (fun H locs u v pc ls C hdg hn hp => pz_reti M hr hlk C hn hdg hp) ⟨hK, hP, hD0.self, va_S.rf⟩ _ hl
theorem pz_enterV {l : Launch} {y : MethodName} {b : ByteArray} {L : Nat} {rm : Room} {S : Type} {Wd : S → va_W} {g : pz_G} {σ : S} {av : List Value} {post : S → Prop} (hy : plainName y.cls = true) (hL : (lg_sl av).length ≤ L)
    (body : ∀ (p : Program) (e : Env) (s : State) (m : MethodId) (args : Array Value) (below : List Frame) (meth : Method) (c : Code) (A : Nat → Prop) (Q : State → Prop), CallFix p m c b L s args lw_all y.cls → (∀ q : Nat, s.heap.size ≤ q → A q) →
      (∀ (H : Heap) (locs : List Loc) (u : S) (pc : Nat) (ls : Array Slot), pz_C Wd g A s u H locs → decode b pc = .ok (.return_, 1) → post u → W p l e rm s m args below meth c H locs 0 0 Q (F0 m pc ls [])) →
      pz_C Wd g A s σ s.heap [] → ∀ ls : Array Slot, lv_has ls L (lv_args 0 av) → W p l e rm s m args below meth c s.heap [] 0 0 Q (F0 m 0 ls [])) : pz_Mv l y b L rm Wd g σ av post := by
  intro sz
  refine Met.ofW (cc := b) (maxL := L) (ret := none) hy rfl ?_
  intro p e s m args below meth c s₁ B hml hv
  obtain ⟨rfl, hsz, hP, hK, hD0⟩ := hv
  have hts := atoms_spec (ws := ws_ y b L none) B.pre
  have hts : ∀ w ∈ lw_all, w.before _ s = true := fun w h => hts w (List.mem_cons_of_mem _ h)
  have hown : s.vm.findClass y.cls = some m.cls := findClass_of_methodNamed B.named
  have hr := B.returns
  have hlk := B.notSynchronized
  subst hsz
  have hl := lv_entry av (n := L) hL
  rw [lg_entry_eq]
  have M : CallFix p m c b L s av.toArray lw_all y.cls := ⟨B.exec, B.bytes, hml, hown, hts⟩
  exact body p e s m _ below meth c _ _ M (fun q h => Or.inr h) (fun H locs u pc ls C hdg hp => pz_retv M hr hlk C hdg hp) ⟨hK, hP, hD0.self, va_S.rf⟩ _ hl
theorem pz_enterS {l : Launch} {y : MethodName} {b : ByteArray} {L : Nat} {ty : FieldType} {rm : Room} {av : List Value} {post : Int32 → Prop} (hy : plainName y.cls = true) (hL : (lg_sl av).length ≤ L)
    (body : ∀ (p : Program) (e : Env) (s : State) (m : MethodId) (args : Array Value) (below : List Frame) (meth : Method) (c : Code) (Q : State → Prop), CallFix p m c b L s args lw_all y.cls →
      (∀ (v : Int32) (pc : Nat) (ls : Array Slot), decode b pc = .ok (.ireturn, 1) → narrow ty (.int v) = .int v → post v → W p l e rm s m args below meth c s.heap [] 0 0 Q (F0 m pc ls [.int v])) →
      ∀ ls : Array Slot, lv_has ls L (lv_args 0 av) → W p l e rm s m args below meth c s.heap [] 0 0 Q (F0 m 0 ls [])) : pz_Si l y b L ty rm av post := by
  refine Met.ofW (cc := b) (maxL := L) (ret := some ty) hy rfl ?_
  intro p e s m args below meth c s₁ B hml hv
  obtain ⟨rfl, -⟩ := hv
  have hts := atoms_spec (ws := ws_ y b L (some ty)) B.pre
  have hts : ∀ w ∈ lw_all, w.before _ s = true := fun w h => hts w (List.mem_cons_of_mem _ h)
  have hown : s.vm.findClass y.cls = some m.cls := findClass_of_methodNamed B.named
  have hr := B.returns
  have hlk := B.notSynchronized
  have hl := lv_entry av (n := L) hL
  rw [lg_entry_eq]
  have M : CallFix p m c b L s av.toArray lw_all y.cls := ⟨B.exec, B.bytes, hml, hown, hts⟩
  exact body p e s m _ below meth c _ M (fun v pc ls hdg hn hp => pz_rets M hr hlk hn hdg hp) _ hl
end
section
/-! the states of a PageMerger and of a PageMergerModel, their cells, a row for each field and array -/
set_option maxRecDepth 100000
abbrev pm_S : Type := Nat × Nat × Nat × (Nat → Nat) × (Nat → Nat) × (Nat → Bool) × (Nat → Nat) × (Nat → Int32) × (Nat → Bool) × (Nat → Nat) × (Nat → Int32) × (Nat → Int32) × (Nat → Bool) × (Nat → Int32)
def ps_fr (σ : pm_S) : Nat := σ.1
def ps_hd (σ : pm_S) : Nat := σ.2.1
def ps_sc (σ : pm_S) : Nat := σ.2.2.1
def ps_fo (σ : pm_S) : Nat → Nat := σ.2.2.2.1
def ps_wh (σ : pm_S) : Nat → Nat := σ.2.2.2.2.1
def ps_to (σ : pm_S) : Nat → Bool := σ.2.2.2.2.2.1
def ps_ho (σ : pm_S) : Nat → Nat := σ.2.2.2.2.2.2.1
def ps_me (σ : pm_S) : Nat → Int32 := σ.2.2.2.2.2.2.2.1
def ps_ru (σ : pm_S) : Nat → Bool := σ.2.2.2.2.2.2.2.2.1
def ps_rl (σ : pm_S) : Nat → Nat := σ.2.2.2.2.2.2.2.2.2.1
def ps_fv (σ : pm_S) : Nat → Int32 := σ.2.2.2.2.2.2.2.2.2.2.1
def ps_sv (σ : pm_S) : Nat → Int32 := σ.2.2.2.2.2.2.2.2.2.2.2.1
def ps_au (σ : pm_S) : Nat → Bool := σ.2.2.2.2.2.2.2.2.2.2.2.2.1
def ps_ai (σ : pm_S) : Nat → Int32 := σ.2.2.2.2.2.2.2.2.2.2.2.2.2
def pt_fr (σ : pm_S) (x : Nat) : pm_S := (x, ps_hd σ, ps_sc σ, ps_fo σ, ps_wh σ, ps_to σ, ps_ho σ, ps_me σ, ps_ru σ, ps_rl σ, ps_fv σ, ps_sv σ, ps_au σ, ps_ai σ)
def pt_hd (σ : pm_S) (x : Nat) : pm_S := (ps_fr σ, x, ps_sc σ, ps_fo σ, ps_wh σ, ps_to σ, ps_ho σ, ps_me σ, ps_ru σ, ps_rl σ, ps_fv σ, ps_sv σ, ps_au σ, ps_ai σ)
def pt_sc (σ : pm_S) (x : Nat) : pm_S := (ps_fr σ, ps_hd σ, x, ps_fo σ, ps_wh σ, ps_to σ, ps_ho σ, ps_me σ, ps_ru σ, ps_rl σ, ps_fv σ, ps_sv σ, ps_au σ, ps_ai σ)
def pt_fo (σ : pm_S) (x : Nat → Nat) : pm_S := (ps_fr σ, ps_hd σ, ps_sc σ, x, ps_wh σ, ps_to σ, ps_ho σ, ps_me σ, ps_ru σ, ps_rl σ, ps_fv σ, ps_sv σ, ps_au σ, ps_ai σ)
def pt_wh (σ : pm_S) (x : Nat → Nat) : pm_S := (ps_fr σ, ps_hd σ, ps_sc σ, ps_fo σ, x, ps_to σ, ps_ho σ, ps_me σ, ps_ru σ, ps_rl σ, ps_fv σ, ps_sv σ, ps_au σ, ps_ai σ)
def pt_to (σ : pm_S) (x : Nat → Bool) : pm_S := (ps_fr σ, ps_hd σ, ps_sc σ, ps_fo σ, ps_wh σ, x, ps_ho σ, ps_me σ, ps_ru σ, ps_rl σ, ps_fv σ, ps_sv σ, ps_au σ, ps_ai σ)
def pt_ho (σ : pm_S) (x : Nat → Nat) : pm_S := (ps_fr σ, ps_hd σ, ps_sc σ, ps_fo σ, ps_wh σ, ps_to σ, x, ps_me σ, ps_ru σ, ps_rl σ, ps_fv σ, ps_sv σ, ps_au σ, ps_ai σ)
def pt_me (σ : pm_S) (x : Nat → Int32) : pm_S := (ps_fr σ, ps_hd σ, ps_sc σ, ps_fo σ, ps_wh σ, ps_to σ, ps_ho σ, x, ps_ru σ, ps_rl σ, ps_fv σ, ps_sv σ, ps_au σ, ps_ai σ)
def pt_ru (σ : pm_S) (x : Nat → Bool) : pm_S := (ps_fr σ, ps_hd σ, ps_sc σ, ps_fo σ, ps_wh σ, ps_to σ, ps_ho σ, ps_me σ, x, ps_rl σ, ps_fv σ, ps_sv σ, ps_au σ, ps_ai σ)
def pt_rl (σ : pm_S) (x : Nat → Nat) : pm_S := (ps_fr σ, ps_hd σ, ps_sc σ, ps_fo σ, ps_wh σ, ps_to σ, ps_ho σ, ps_me σ, ps_ru σ, x, ps_fv σ, ps_sv σ, ps_au σ, ps_ai σ)
def pt_fv (σ : pm_S) (x : Nat → Int32) : pm_S := (ps_fr σ, ps_hd σ, ps_sc σ, ps_fo σ, ps_wh σ, ps_to σ, ps_ho σ, ps_me σ, ps_ru σ, ps_rl σ, x, ps_sv σ, ps_au σ, ps_ai σ)
def pt_sv (σ : pm_S) (x : Nat → Int32) : pm_S := (ps_fr σ, ps_hd σ, ps_sc σ, ps_fo σ, ps_wh σ, ps_to σ, ps_ho σ, ps_me σ, ps_ru σ, ps_rl σ, ps_fv σ, x, ps_au σ, ps_ai σ)
def pt_au (σ : pm_S) (x : Nat → Bool) : pm_S := (ps_fr σ, ps_hd σ, ps_sc σ, ps_fo σ, ps_wh σ, ps_to σ, ps_ho σ, ps_me σ, ps_ru σ, ps_rl σ, ps_fv σ, ps_sv σ, x, ps_ai σ)
def pt_ai (σ : pm_S) (x : Nat → Int32) : pm_S := (ps_fr σ, ps_hd σ, ps_sc σ, ps_fo σ, ps_wh σ, ps_to σ, ps_ho σ, ps_me σ, ps_ru σ, ps_rl σ, ps_fv σ, ps_sv σ, ps_au σ, x)
def pm_W (g : pz_G) (ad : Nat → Nat) (σ : pm_S) : va_W := match σ with
  | (fr, hd, sc, fo, wh, to, ho, me, ru, rl, fv, sv, au, ai) => [(ad 0, .inr (0, [.int (nI fr), .ref (ad 1), .ref (ad 2), .ref (ad 3), .int (nI hd), .int (nI sc), .ref (ad 6), .ref (ad 7), .ref (ad 8), .ref (ad 9), .ref (ad 10), .ref (ad 11), .ref (ad 12), .ref (ad 13)])), (ad 1, .inl (g.2.1, 24, .inl (pz_nF (fo)))), (ad 2, .inl (g.2.1, 24, .inl (pz_nF (wh)))), (ad 3, .inl (g.2.2, 24, .inl (pz_bF (to)))), (ad 6, .inl (g.2.1, 16, .inl (pz_nF (ho)))), (ad 7, .inl (g.2.1, 64, .inl (me))), (ad 8, .inl (g.2.2, 24, .inl (pz_bF (ru)))), (ad 9, .inl (g.2.1, 24, .inl (pz_nF (rl)))), (ad 10, .inl (g.2.1, 24, .inl (fv))), (ad 11, .inl (g.2.1, 24, .inl (sv))), (ad 12, .inl (g.2.2, 24, .inl (pz_bF (au)))), (ad 13, .inl (g.2.1, 96, .inl (ai)))]
theorem pm_W_eq (g : pz_G) (ad : Nat → Nat) (fr : Nat) (hd : Nat) (sc : Nat) (fo : Nat → Nat) (wh : Nat → Nat) (to : Nat → Bool) (ho : Nat → Nat) (me : Nat → Int32) (ru : Nat → Bool) (rl : Nat → Nat) (fv : Nat → Int32) (sv : Nat → Int32) (au : Nat → Bool) (ai : Nat → Int32) : pm_W g ad (fr, hd, sc, fo, wh, to, ho, me, ru, rl, fv, sv, au, ai) = [(ad 0, .inr (0, [.int (nI fr), .ref (ad 1), .ref (ad 2), .ref (ad 3), .int (nI hd), .int (nI sc), .ref (ad 6), .ref (ad 7), .ref (ad 8), .ref (ad 9), .ref (ad 10), .ref (ad 11), .ref (ad 12), .ref (ad 13)])), (ad 1, .inl (g.2.1, 24, .inl (pz_nF (fo)))), (ad 2, .inl (g.2.1, 24, .inl (pz_nF (wh)))), (ad 3, .inl (g.2.2, 24, .inl (pz_bF (to)))), (ad 6, .inl (g.2.1, 16, .inl (pz_nF (ho)))), (ad 7, .inl (g.2.1, 64, .inl (me))), (ad 8, .inl (g.2.2, 24, .inl (pz_bF (ru)))), (ad 9, .inl (g.2.1, 24, .inl (pz_nF (rl)))), (ad 10, .inl (g.2.1, 24, .inl (fv))), (ad 11, .inl (g.2.1, 24, .inl (sv))), (ad 12, .inl (g.2.2, 24, .inl (pz_bF (au)))), (ad 13, .inl (g.2.1, 96, .inl (ai)))] := rfl
theorem pz_set0 {α : Type} (a0 a1 a2 a3 a4 a5 a6 a7 a8 a9 a10 a11 x : α) : [a0, a1, a2, a3, a4, a5, a6, a7, a8, a9, a10, a11].set 0 x = [x, a1, a2, a3, a4, a5, a6, a7, a8, a9, a10, a11] := rfl
theorem pz_set1 {α : Type} (a0 a1 a2 a3 a4 a5 a6 a7 a8 a9 a10 a11 x : α) : [a0, a1, a2, a3, a4, a5, a6, a7, a8, a9, a10, a11].set 1 x = [a0, x, a2, a3, a4, a5, a6, a7, a8, a9, a10, a11] := rfl
theorem pz_set2 {α : Type} (a0 a1 a2 a3 a4 a5 a6 a7 a8 a9 a10 a11 x : α) : [a0, a1, a2, a3, a4, a5, a6, a7, a8, a9, a10, a11].set 2 x = [a0, a1, x, a3, a4, a5, a6, a7, a8, a9, a10, a11] := rfl
theorem pz_set3 {α : Type} (a0 a1 a2 a3 a4 a5 a6 a7 a8 a9 a10 a11 x : α) : [a0, a1, a2, a3, a4, a5, a6, a7, a8, a9, a10, a11].set 3 x = [a0, a1, a2, x, a4, a5, a6, a7, a8, a9, a10, a11] := rfl
theorem pz_set4 {α : Type} (a0 a1 a2 a3 a4 a5 a6 a7 a8 a9 a10 a11 x : α) : [a0, a1, a2, a3, a4, a5, a6, a7, a8, a9, a10, a11].set 4 x = [a0, a1, a2, a3, x, a5, a6, a7, a8, a9, a10, a11] := rfl
theorem pz_set5 {α : Type} (a0 a1 a2 a3 a4 a5 a6 a7 a8 a9 a10 a11 x : α) : [a0, a1, a2, a3, a4, a5, a6, a7, a8, a9, a10, a11].set 5 x = [a0, a1, a2, a3, a4, x, a6, a7, a8, a9, a10, a11] := rfl
theorem pz_set6 {α : Type} (a0 a1 a2 a3 a4 a5 a6 a7 a8 a9 a10 a11 x : α) : [a0, a1, a2, a3, a4, a5, a6, a7, a8, a9, a10, a11].set 6 x = [a0, a1, a2, a3, a4, a5, x, a7, a8, a9, a10, a11] := rfl
theorem pz_set7 {α : Type} (a0 a1 a2 a3 a4 a5 a6 a7 a8 a9 a10 a11 x : α) : [a0, a1, a2, a3, a4, a5, a6, a7, a8, a9, a10, a11].set 7 x = [a0, a1, a2, a3, a4, a5, a6, x, a8, a9, a10, a11] := rfl
theorem pz_set8 {α : Type} (a0 a1 a2 a3 a4 a5 a6 a7 a8 a9 a10 a11 x : α) : [a0, a1, a2, a3, a4, a5, a6, a7, a8, a9, a10, a11].set 8 x = [a0, a1, a2, a3, a4, a5, a6, a7, x, a9, a10, a11] := rfl
theorem pz_set9 {α : Type} (a0 a1 a2 a3 a4 a5 a6 a7 a8 a9 a10 a11 x : α) : [a0, a1, a2, a3, a4, a5, a6, a7, a8, a9, a10, a11].set 9 x = [a0, a1, a2, a3, a4, a5, a6, a7, a8, x, a10, a11] := rfl
theorem pz_set10 {α : Type} (a0 a1 a2 a3 a4 a5 a6 a7 a8 a9 a10 a11 x : α) : [a0, a1, a2, a3, a4, a5, a6, a7, a8, a9, a10, a11].set 10 x = [a0, a1, a2, a3, a4, a5, a6, a7, a8, a9, x, a11] := rfl
theorem pz_set11 {α : Type} (a0 a1 a2 a3 a4 a5 a6 a7 a8 a9 a10 a11 x : α) : [a0, a1, a2, a3, a4, a5, a6, a7, a8, a9, a10, a11].set 11 x = [a0, a1, a2, a3, a4, a5, a6, a7, a8, a9, a10, x] := rfl
section PMR
variable {p : Program} {l : Launch} {e : Env} {R : Room} {s : State} {m : MethodId} {args : Array Value} {below : List Frame} {meth : Method} {c : Code} {H : Heap} {locs : List Loc} {cells slots : Nat} {Q : State → Prop}
variable {cc : ByteArray} {pc : Nat} {ls : Array Slot} {rest : List Value} {g : pz_G} {A : Nat → Prop} {ad : Nat → Nat} {nL : Nat}
variable {fr : Nat} {hd : Nat} {sc : Nat} {fo : Nat → Nat} {wh : Nat → Nat} {to : Nat → Bool} {ho : Nat → Nat} {me : Nat → Int32} {ru : Nat → Bool} {rl : Nat → Nat} {fv : Nat → Int32} {sv : Nat → Int32} {au : Nat → Bool} {ai : Nat → Int32}
theorem pm_g_fr (M : CallFix p m c cc nL s args lw_all RX1) (C : pz_C (pm_W g ad) g A s (fr, hd, sc, fo, wh, to, ho, me, ru, rl, fv, sv, au, ai) H locs) (hdg : decode cc pc = .ok (.getfield 44, 3)) (kk : W p l e R s m args below meth c H locs cells slots Q (F0 m (pc + 3) ls (.int (nI fr) :: rest))) : W p l e R s m args below meth c H locs cells slots Q (F0 m pc ls (.ref (ad 0) :: rest)) := by
  have hP := C.2.1
  rw [pm_W_eq] at hP
  exact va_get (D := g.1) (ci := 0) (v := .int (nI fr)) (C := RX1) (T := TX1) (N := 14) M.1 M.2.1 M.2.2.2.2 in_X1 M.2.2.2.1 C.1 hP 0 rfl rfl 0 (by decide) (M.2.2.2.2 _ q28) (fun _ h9 => h9) rfl hdg kk
theorem pm_g_fo (M : CallFix p m c cc nL s args lw_all RX1) (C : pz_C (pm_W g ad) g A s (fr, hd, sc, fo, wh, to, ho, me, ru, rl, fv, sv, au, ai) H locs) (hdg : decode cc pc = .ok (.getfield 7, 3)) (kk : W p l e R s m args below meth c H locs cells slots Q (F0 m (pc + 3) ls (.ref (ad 1) :: rest))) : W p l e R s m args below meth c H locs cells slots Q (F0 m pc ls (.ref (ad 0) :: rest)) := by
  have hP := C.2.1
  rw [pm_W_eq] at hP
  exact va_get (D := g.1) (ci := 0) (v := .ref (ad 1)) (C := RX1) (T := TX1) (N := 14) M.1 M.2.1 M.2.2.2.2 in_X1 M.2.2.2.1 C.1 hP 0 rfl rfl 1 (by decide) (M.2.2.2.2 _ q29) (fun _ h9 => h9) rfl hdg kk
theorem pm_g_wh (M : CallFix p m c cc nL s args lw_all RX1) (C : pz_C (pm_W g ad) g A s (fr, hd, sc, fo, wh, to, ho, me, ru, rl, fv, sv, au, ai) H locs) (hdg : decode cc pc = .ok (.getfield 13, 3)) (kk : W p l e R s m args below meth c H locs cells slots Q (F0 m (pc + 3) ls (.ref (ad 2) :: rest))) : W p l e R s m args below meth c H locs cells slots Q (F0 m pc ls (.ref (ad 0) :: rest)) := by
  have hP := C.2.1
  rw [pm_W_eq] at hP
  exact va_get (D := g.1) (ci := 0) (v := .ref (ad 2)) (C := RX1) (T := TX1) (N := 14) M.1 M.2.1 M.2.2.2.2 in_X1 M.2.2.2.1 C.1 hP 0 rfl rfl 2 (by decide) (M.2.2.2.2 _ q30) (fun _ h9 => h9) rfl hdg kk
theorem pm_g_to (M : CallFix p m c cc nL s args lw_all RX1) (C : pz_C (pm_W g ad) g A s (fr, hd, sc, fo, wh, to, ho, me, ru, rl, fv, sv, au, ai) H locs) (hdg : decode cc pc = .ok (.getfield 16, 3)) (kk : W p l e R s m args below meth c H locs cells slots Q (F0 m (pc + 3) ls (.ref (ad 3) :: rest))) : W p l e R s m args below meth c H locs cells slots Q (F0 m pc ls (.ref (ad 0) :: rest)) := by
  have hP := C.2.1
  rw [pm_W_eq] at hP
  exact va_get (D := g.1) (ci := 0) (v := .ref (ad 3)) (C := RX1) (T := TX1) (N := 14) M.1 M.2.1 M.2.2.2.2 in_X1 M.2.2.2.1 C.1 hP 0 rfl rfl 3 (by decide) (M.2.2.2.2 _ q31) (fun _ h9 => h9) rfl hdg kk
theorem pm_g_hd (M : CallFix p m c cc nL s args lw_all RX1) (C : pz_C (pm_W g ad) g A s (fr, hd, sc, fo, wh, to, ho, me, ru, rl, fv, sv, au, ai) H locs) (hdg : decode cc pc = .ok (.getfield 71, 3)) (kk : W p l e R s m args below meth c H locs cells slots Q (F0 m (pc + 3) ls (.int (nI hd) :: rest))) : W p l e R s m args below meth c H locs cells slots Q (F0 m pc ls (.ref (ad 0) :: rest)) := by
  have hP := C.2.1
  rw [pm_W_eq] at hP
  exact va_get (D := g.1) (ci := 0) (v := .int (nI hd)) (C := RX1) (T := TX1) (N := 14) M.1 M.2.1 M.2.2.2.2 in_X1 M.2.2.2.1 C.1 hP 0 rfl rfl 4 (by decide) (M.2.2.2.2 _ q32) (fun _ h9 => h9) rfl hdg kk
theorem pm_g_sc (M : CallFix p m c cc nL s args lw_all RX1) (C : pz_C (pm_W g ad) g A s (fr, hd, sc, fo, wh, to, ho, me, ru, rl, fv, sv, au, ai) H locs) (hdg : decode cc pc = .ok (.getfield 101, 3)) (kk : W p l e R s m args below meth c H locs cells slots Q (F0 m (pc + 3) ls (.int (nI sc) :: rest))) : W p l e R s m args below meth c H locs cells slots Q (F0 m pc ls (.ref (ad 0) :: rest)) := by
  have hP := C.2.1
  rw [pm_W_eq] at hP
  exact va_get (D := g.1) (ci := 0) (v := .int (nI sc)) (C := RX1) (T := TX1) (N := 14) M.1 M.2.1 M.2.2.2.2 in_X1 M.2.2.2.1 C.1 hP 0 rfl rfl 5 (by decide) (M.2.2.2.2 _ q33) (fun _ h9 => h9) rfl hdg kk
theorem pm_g_ho (M : CallFix p m c cc nL s args lw_all RX1) (C : pz_C (pm_W g ad) g A s (fr, hd, sc, fo, wh, to, ho, me, ru, rl, fv, sv, au, ai) H locs) (hdg : decode cc pc = .ok (.getfield 20, 3)) (kk : W p l e R s m args below meth c H locs cells slots Q (F0 m (pc + 3) ls (.ref (ad 6) :: rest))) : W p l e R s m args below meth c H locs cells slots Q (F0 m pc ls (.ref (ad 0) :: rest)) := by
  have hP := C.2.1
  rw [pm_W_eq] at hP
  exact va_get (D := g.1) (ci := 0) (v := .ref (ad 6)) (C := RX1) (T := TX1) (N := 14) M.1 M.2.1 M.2.2.2.2 in_X1 M.2.2.2.1 C.1 hP 0 rfl rfl 6 (by decide) (M.2.2.2.2 _ q34) (fun _ h9 => h9) rfl hdg kk
theorem pm_g_me (M : CallFix p m c cc nL s args lw_all RX1) (C : pz_C (pm_W g ad) g A s (fr, hd, sc, fo, wh, to, ho, me, ru, rl, fv, sv, au, ai) H locs) (hdg : decode cc pc = .ok (.getfield 23, 3)) (kk : W p l e R s m args below meth c H locs cells slots Q (F0 m (pc + 3) ls (.ref (ad 7) :: rest))) : W p l e R s m args below meth c H locs cells slots Q (F0 m pc ls (.ref (ad 0) :: rest)) := by
  have hP := C.2.1
  rw [pm_W_eq] at hP
  exact va_get (D := g.1) (ci := 0) (v := .ref (ad 7)) (C := RX1) (T := TX1) (N := 14) M.1 M.2.1 M.2.2.2.2 in_X1 M.2.2.2.1 C.1 hP 0 rfl rfl 7 (by decide) (M.2.2.2.2 _ q35) (fun _ h9 => h9) rfl hdg kk
theorem pm_g_ru (M : CallFix p m c cc nL s args lw_all RX1) (C : pz_C (pm_W g ad) g A s (fr, hd, sc, fo, wh, to, ho, me, ru, rl, fv, sv, au, ai) H locs) (hdg : decode cc pc = .ok (.getfield 26, 3)) (kk : W p l e R s m args below meth c H locs cells slots Q (F0 m (pc + 3) ls (.ref (ad 8) :: rest))) : W p l e R s m args below meth c H locs cells slots Q (F0 m pc ls (.ref (ad 0) :: rest)) := by
  have hP := C.2.1
  rw [pm_W_eq] at hP
  exact va_get (D := g.1) (ci := 0) (v := .ref (ad 8)) (C := RX1) (T := TX1) (N := 14) M.1 M.2.1 M.2.2.2.2 in_X1 M.2.2.2.1 C.1 hP 0 rfl rfl 8 (by decide) (M.2.2.2.2 _ q36) (fun _ h9 => h9) rfl hdg kk
theorem pm_g_rl (M : CallFix p m c cc nL s args lw_all RX1) (C : pz_C (pm_W g ad) g A s (fr, hd, sc, fo, wh, to, ho, me, ru, rl, fv, sv, au, ai) H locs) (hdg : decode cc pc = .ok (.getfield 29, 3)) (kk : W p l e R s m args below meth c H locs cells slots Q (F0 m (pc + 3) ls (.ref (ad 9) :: rest))) : W p l e R s m args below meth c H locs cells slots Q (F0 m pc ls (.ref (ad 0) :: rest)) := by
  have hP := C.2.1
  rw [pm_W_eq] at hP
  exact va_get (D := g.1) (ci := 0) (v := .ref (ad 9)) (C := RX1) (T := TX1) (N := 14) M.1 M.2.1 M.2.2.2.2 in_X1 M.2.2.2.1 C.1 hP 0 rfl rfl 9 (by decide) (M.2.2.2.2 _ q37) (fun _ h9 => h9) rfl hdg kk
theorem pm_g_fv (M : CallFix p m c cc nL s args lw_all RX1) (C : pz_C (pm_W g ad) g A s (fr, hd, sc, fo, wh, to, ho, me, ru, rl, fv, sv, au, ai) H locs) (hdg : decode cc pc = .ok (.getfield 32, 3)) (kk : W p l e R s m args below meth c H locs cells slots Q (F0 m (pc + 3) ls (.ref (ad 10) :: rest))) : W p l e R s m args below meth c H locs cells slots Q (F0 m pc ls (.ref (ad 0) :: rest)) := by
  have hP := C.2.1
  rw [pm_W_eq] at hP
  exact va_get (D := g.1) (ci := 0) (v := .ref (ad 10)) (C := RX1) (T := TX1) (N := 14) M.1 M.2.1 M.2.2.2.2 in_X1 M.2.2.2.1 C.1 hP 0 rfl rfl 10 (by decide) (M.2.2.2.2 _ q38) (fun _ h9 => h9) rfl hdg kk
theorem pm_g_sv (M : CallFix p m c cc nL s args lw_all RX1) (C : pz_C (pm_W g ad) g A s (fr, hd, sc, fo, wh, to, ho, me, ru, rl, fv, sv, au, ai) H locs) (hdg : decode cc pc = .ok (.getfield 35, 3)) (kk : W p l e R s m args below meth c H locs cells slots Q (F0 m (pc + 3) ls (.ref (ad 11) :: rest))) : W p l e R s m args below meth c H locs cells slots Q (F0 m pc ls (.ref (ad 0) :: rest)) := by
  have hP := C.2.1
  rw [pm_W_eq] at hP
  exact va_get (D := g.1) (ci := 0) (v := .ref (ad 11)) (C := RX1) (T := TX1) (N := 14) M.1 M.2.1 M.2.2.2.2 in_X1 M.2.2.2.1 C.1 hP 0 rfl rfl 11 (by decide) (M.2.2.2.2 _ q39) (fun _ h9 => h9) rfl hdg kk
theorem pm_g_au (M : CallFix p m c cc nL s args lw_all RX1) (C : pz_C (pm_W g ad) g A s (fr, hd, sc, fo, wh, to, ho, me, ru, rl, fv, sv, au, ai) H locs) (hdg : decode cc pc = .ok (.getfield 38, 3)) (kk : W p l e R s m args below meth c H locs cells slots Q (F0 m (pc + 3) ls (.ref (ad 12) :: rest))) : W p l e R s m args below meth c H locs cells slots Q (F0 m pc ls (.ref (ad 0) :: rest)) := by
  have hP := C.2.1
  rw [pm_W_eq] at hP
  exact va_get (D := g.1) (ci := 0) (v := .ref (ad 12)) (C := RX1) (T := TX1) (N := 14) M.1 M.2.1 M.2.2.2.2 in_X1 M.2.2.2.1 C.1 hP 0 rfl rfl 12 (by decide) (M.2.2.2.2 _ q40) (fun _ h9 => h9) rfl hdg kk
theorem pm_g_ai (M : CallFix p m c cc nL s args lw_all RX1) (C : pz_C (pm_W g ad) g A s (fr, hd, sc, fo, wh, to, ho, me, ru, rl, fv, sv, au, ai) H locs) (hdg : decode cc pc = .ok (.getfield 41, 3)) (kk : W p l e R s m args below meth c H locs cells slots Q (F0 m (pc + 3) ls (.ref (ad 13) :: rest))) : W p l e R s m args below meth c H locs cells slots Q (F0 m pc ls (.ref (ad 0) :: rest)) := by
  have hP := C.2.1
  rw [pm_W_eq] at hP
  exact va_get (D := g.1) (ci := 0) (v := .ref (ad 13)) (C := RX1) (T := TX1) (N := 14) M.1 M.2.1 M.2.2.2.2 in_X1 M.2.2.2.1 C.1 hP 0 rfl rfl 13 (by decide) (M.2.2.2.2 _ q41) (fun _ h9 => h9) rfl hdg kk
theorem pm_p_hd (M : CallFix p m c cc nL s args lw_all RX1) (C : pz_C (pm_W g ad) g A s (fr, hd, sc, fo, wh, to, ho, me, ru, rl, fv, sv, au, ai) H locs) {v : Nat} (hdg : decode cc pc = .ok (.putfield 71, 3)) (kk : ∀ (H1 : Heap) (locs1 : List Loc), pz_C (pm_W g ad) g A s (fr, v, sc, fo, wh, to, ho, me, ru, rl, fv, sv, au, ai) H1 locs1 → W p l e R s m args below meth c H1 locs1 cells slots Q (F0 m (pc + 3) ls rest)) : W p l e R s m args below meth c H locs cells slots Q (F0 m pc ls (.int (nI v) :: .ref (ad 0) :: rest)) := by
  obtain ⟨hK, hP, hD, hS⟩ := C
  rw [pm_W_eq] at hP hD
  refine va_put (D := g.1) (ci := 0) (v := .int (nI v)) (ty := .int) (C := RX1) (T := TX1) (N := 14) M.1 M.2.1 M.2.2.2.2 in_X1 tyX1 tyX1_ok nmX1 M.2.2.2.1 hK hP hD hS 0 rfl rfl 4 (by decide) (M.2.2.2.2 _ q32) (fun _ h9 => h9) rfl (by decide +kernel) rfl rfl (Nat.le_of_ble_eq_true rfl) hdg (fun H1 locs1 hP hD hS => kk H1 locs1 ⟨hK, ?_, ?_, hS⟩)
  · rw [pm_W_eq]
    exact hP
  · rw [pm_W_eq]
    exact hD
theorem pm_p_sc (M : CallFix p m c cc nL s args lw_all RX1) (C : pz_C (pm_W g ad) g A s (fr, hd, sc, fo, wh, to, ho, me, ru, rl, fv, sv, au, ai) H locs) {v : Nat} (hdg : decode cc pc = .ok (.putfield 101, 3)) (kk : ∀ (H1 : Heap) (locs1 : List Loc), pz_C (pm_W g ad) g A s (fr, hd, v, fo, wh, to, ho, me, ru, rl, fv, sv, au, ai) H1 locs1 → W p l e R s m args below meth c H1 locs1 cells slots Q (F0 m (pc + 3) ls rest)) : W p l e R s m args below meth c H locs cells slots Q (F0 m pc ls (.int (nI v) :: .ref (ad 0) :: rest)) := by
  obtain ⟨hK, hP, hD, hS⟩ := C
  rw [pm_W_eq] at hP hD
  refine va_put (D := g.1) (ci := 0) (v := .int (nI v)) (ty := .int) (C := RX1) (T := TX1) (N := 14) M.1 M.2.1 M.2.2.2.2 in_X1 tyX1 tyX1_ok nmX1 M.2.2.2.1 hK hP hD hS 0 rfl rfl 5 (by decide) (M.2.2.2.2 _ q33) (fun _ h9 => h9) rfl (by decide +kernel) rfl rfl (Nat.le_of_ble_eq_true rfl) hdg (fun H1 locs1 hP hD hS => kk H1 locs1 ⟨hK, ?_, ?_, hS⟩)
  · rw [pm_W_eq]
    exact hP
  · rw [pm_W_eq]
    exact hD
theorem pm_l_fo (M : CallFix p m c cc nL s args lw_all RX1) (C : pz_C (pm_W g ad) g A s (fr, hd, sc, fo, wh, to, ho, me, ru, rl, fv, sv, au, ai) H locs) {k : Nat} (hk : k < 24) (hdg : decode cc pc = .ok (.iaload, 1)) (kk : W p l e R s m args below meth c H locs cells slots Q (F0 m (pc + 1) ls (.int (nI (fo k)) :: rest))) : W p l e R s m args below meth c H locs cells slots Q (F0 m pc ls (.int (nI k) :: .ref (ad 1) :: rest)) := by
  have hP := C.2.1
  rw [pm_W_eq] at hP
  exact va_iald M.1 M.2.1 C.1 hP 1 0 rfl rfl (vp_in_nI hk (by decide)) hdg (by rw [nI_clamp (Nat.lt_trans hk (by decide))]; exact kk)
theorem pm_l_wh (M : CallFix p m c cc nL s args lw_all RX1) (C : pz_C (pm_W g ad) g A s (fr, hd, sc, fo, wh, to, ho, me, ru, rl, fv, sv, au, ai) H locs) {k : Nat} (hk : k < 24) (hdg : decode cc pc = .ok (.iaload, 1)) (kk : W p l e R s m args below meth c H locs cells slots Q (F0 m (pc + 1) ls (.int (nI (wh k)) :: rest))) : W p l e R s m args below meth c H locs cells slots Q (F0 m pc ls (.int (nI k) :: .ref (ad 2) :: rest)) := by
  have hP := C.2.1
  rw [pm_W_eq] at hP
  exact va_iald M.1 M.2.1 C.1 hP 2 0 rfl rfl (vp_in_nI hk (by decide)) hdg (by rw [nI_clamp (Nat.lt_trans hk (by decide))]; exact kk)
theorem pm_l_to (M : CallFix p m c cc nL s args lw_all RX1) (C : pz_C (pm_W g ad) g A s (fr, hd, sc, fo, wh, to, ho, me, ru, rl, fv, sv, au, ai) H locs) {k : Nat} (hk : k < 24) (hdg : decode cc pc = .ok (.baload, 1)) (kk : W p l e R s m args below meth c H locs cells slots Q (F0 m (pc + 1) ls (.int (pz_b (to k)) :: rest))) : W p l e R s m args below meth c H locs cells slots Q (F0 m pc ls (.int (nI k) :: .ref (ad 3) :: rest)) := by
  have hP := C.2.1
  rw [pm_W_eq] at hP
  exact va_zald M.1 M.2.1 C.1 hP 3 1 rfl rfl (vp_in_nI hk (by decide)) hdg (by rw [nI_clamp (Nat.lt_trans hk (by decide))]; exact kk)
theorem pm_l_ho (M : CallFix p m c cc nL s args lw_all RX1) (C : pz_C (pm_W g ad) g A s (fr, hd, sc, fo, wh, to, ho, me, ru, rl, fv, sv, au, ai) H locs) {k : Nat} (hk : k < 16) (hdg : decode cc pc = .ok (.iaload, 1)) (kk : W p l e R s m args below meth c H locs cells slots Q (F0 m (pc + 1) ls (.int (nI (ho k)) :: rest))) : W p l e R s m args below meth c H locs cells slots Q (F0 m pc ls (.int (nI k) :: .ref (ad 6) :: rest)) := by
  have hP := C.2.1
  rw [pm_W_eq] at hP
  exact va_iald M.1 M.2.1 C.1 hP 4 0 rfl rfl (vp_in_nI hk (by decide)) hdg (by rw [nI_clamp (Nat.lt_trans hk (by decide))]; exact kk)
theorem pm_l_me (M : CallFix p m c cc nL s args lw_all RX1) (C : pz_C (pm_W g ad) g A s (fr, hd, sc, fo, wh, to, ho, me, ru, rl, fv, sv, au, ai) H locs) {k : Nat} (hk : k < 64) (hdg : decode cc pc = .ok (.iaload, 1)) (kk : W p l e R s m args below meth c H locs cells slots Q (F0 m (pc + 1) ls (.int (me k) :: rest))) : W p l e R s m args below meth c H locs cells slots Q (F0 m pc ls (.int (nI k) :: .ref (ad 7) :: rest)) := by
  have hP := C.2.1
  rw [pm_W_eq] at hP
  exact va_iald M.1 M.2.1 C.1 hP 5 0 rfl rfl (vp_in_nI hk (by decide)) hdg (by rw [nI_clamp (Nat.lt_trans hk (by decide))]; exact kk)
theorem pm_l_ru (M : CallFix p m c cc nL s args lw_all RX1) (C : pz_C (pm_W g ad) g A s (fr, hd, sc, fo, wh, to, ho, me, ru, rl, fv, sv, au, ai) H locs) {k : Nat} (hk : k < 24) (hdg : decode cc pc = .ok (.baload, 1)) (kk : W p l e R s m args below meth c H locs cells slots Q (F0 m (pc + 1) ls (.int (pz_b (ru k)) :: rest))) : W p l e R s m args below meth c H locs cells slots Q (F0 m pc ls (.int (nI k) :: .ref (ad 8) :: rest)) := by
  have hP := C.2.1
  rw [pm_W_eq] at hP
  exact va_zald M.1 M.2.1 C.1 hP 6 1 rfl rfl (vp_in_nI hk (by decide)) hdg (by rw [nI_clamp (Nat.lt_trans hk (by decide))]; exact kk)
theorem pm_l_rl (M : CallFix p m c cc nL s args lw_all RX1) (C : pz_C (pm_W g ad) g A s (fr, hd, sc, fo, wh, to, ho, me, ru, rl, fv, sv, au, ai) H locs) {k : Nat} (hk : k < 24) (hdg : decode cc pc = .ok (.iaload, 1)) (kk : W p l e R s m args below meth c H locs cells slots Q (F0 m (pc + 1) ls (.int (nI (rl k)) :: rest))) : W p l e R s m args below meth c H locs cells slots Q (F0 m pc ls (.int (nI k) :: .ref (ad 9) :: rest)) := by
  have hP := C.2.1
  rw [pm_W_eq] at hP
  exact va_iald M.1 M.2.1 C.1 hP 7 0 rfl rfl (vp_in_nI hk (by decide)) hdg (by rw [nI_clamp (Nat.lt_trans hk (by decide))]; exact kk)
theorem pm_l_fv (M : CallFix p m c cc nL s args lw_all RX1) (C : pz_C (pm_W g ad) g A s (fr, hd, sc, fo, wh, to, ho, me, ru, rl, fv, sv, au, ai) H locs) {k : Nat} (hk : k < 24) (hdg : decode cc pc = .ok (.iaload, 1)) (kk : W p l e R s m args below meth c H locs cells slots Q (F0 m (pc + 1) ls (.int (fv k) :: rest))) : W p l e R s m args below meth c H locs cells slots Q (F0 m pc ls (.int (nI k) :: .ref (ad 10) :: rest)) := by
  have hP := C.2.1
  rw [pm_W_eq] at hP
  exact va_iald M.1 M.2.1 C.1 hP 8 0 rfl rfl (vp_in_nI hk (by decide)) hdg (by rw [nI_clamp (Nat.lt_trans hk (by decide))]; exact kk)
theorem pm_l_sv (M : CallFix p m c cc nL s args lw_all RX1) (C : pz_C (pm_W g ad) g A s (fr, hd, sc, fo, wh, to, ho, me, ru, rl, fv, sv, au, ai) H locs) {k : Nat} (hk : k < 24) (hdg : decode cc pc = .ok (.iaload, 1)) (kk : W p l e R s m args below meth c H locs cells slots Q (F0 m (pc + 1) ls (.int (sv k) :: rest))) : W p l e R s m args below meth c H locs cells slots Q (F0 m pc ls (.int (nI k) :: .ref (ad 11) :: rest)) := by
  have hP := C.2.1
  rw [pm_W_eq] at hP
  exact va_iald M.1 M.2.1 C.1 hP 9 0 rfl rfl (vp_in_nI hk (by decide)) hdg (by rw [nI_clamp (Nat.lt_trans hk (by decide))]; exact kk)
theorem pm_l_au (M : CallFix p m c cc nL s args lw_all RX1) (C : pz_C (pm_W g ad) g A s (fr, hd, sc, fo, wh, to, ho, me, ru, rl, fv, sv, au, ai) H locs) {k : Nat} (hk : k < 24) (hdg : decode cc pc = .ok (.baload, 1)) (kk : W p l e R s m args below meth c H locs cells slots Q (F0 m (pc + 1) ls (.int (pz_b (au k)) :: rest))) : W p l e R s m args below meth c H locs cells slots Q (F0 m pc ls (.int (nI k) :: .ref (ad 12) :: rest)) := by
  have hP := C.2.1
  rw [pm_W_eq] at hP
  exact va_zald M.1 M.2.1 C.1 hP 10 1 rfl rfl (vp_in_nI hk (by decide)) hdg (by rw [nI_clamp (Nat.lt_trans hk (by decide))]; exact kk)
theorem pm_l_ai (M : CallFix p m c cc nL s args lw_all RX1) (C : pz_C (pm_W g ad) g A s (fr, hd, sc, fo, wh, to, ho, me, ru, rl, fv, sv, au, ai) H locs) {k : Nat} (hk : k < 96) (hdg : decode cc pc = .ok (.iaload, 1)) (kk : W p l e R s m args below meth c H locs cells slots Q (F0 m (pc + 1) ls (.int (ai k) :: rest))) : W p l e R s m args below meth c H locs cells slots Q (F0 m pc ls (.int (nI k) :: .ref (ad 13) :: rest)) := by
  have hP := C.2.1
  rw [pm_W_eq] at hP
  exact va_iald M.1 M.2.1 C.1 hP 11 0 rfl rfl (vp_in_nI hk (by decide)) hdg (by rw [nI_clamp (Nat.lt_trans hk (by decide))]; exact kk)
theorem pm_s_fo (M : CallFix p m c cc nL s args lw_all RX1) (C : pz_C (pm_W g ad) g A s (fr, hd, sc, fo, wh, to, ho, me, ru, rl, fv, sv, au, ai) H locs) {i : Nat} {v : Nat} (hi : i < 24) (hdg : decode cc pc = .ok (.iastore, 1)) (kk : ∀ (H1 : Heap) (locs1 : List Loc), pz_C (pm_W g ad) g A s (fr, hd, sc, va_up fo i v, wh, to, ho, me, ru, rl, fv, sv, au, ai) H1 locs1 → W p l e R s m args below meth c H1 locs1 cells slots Q (F0 m (pc + 1) ls rest)) : W p l e R s m args below meth c H locs cells slots Q (F0 m pc ls (.int (nI v) :: .int (nI i) :: .ref (ad 1) :: rest)) := by
  obtain ⟨hK, hP, hD, hS⟩ := C
  rw [pm_W_eq] at hP hD
  refine va_iast M.1 M.2.1 hK hP hD hS 1 0 rfl rfl (vp_in_nI hi (by decide)) hdg (fun H1 locs1 hP hD hS => ?_)
  rw [nI_clamp (Nat.lt_trans hi (by decide)), pz_updN, pz_set1] at hP hD
  refine kk H1 locs1 ⟨hK, ?_, ?_, hS⟩
  · rw [pm_W_eq]
    exact hP
  · rw [pm_W_eq]
    exact hD
theorem pm_s_wh (M : CallFix p m c cc nL s args lw_all RX1) (C : pz_C (pm_W g ad) g A s (fr, hd, sc, fo, wh, to, ho, me, ru, rl, fv, sv, au, ai) H locs) {i : Nat} {v : Nat} (hi : i < 24) (hdg : decode cc pc = .ok (.iastore, 1)) (kk : ∀ (H1 : Heap) (locs1 : List Loc), pz_C (pm_W g ad) g A s (fr, hd, sc, fo, va_up wh i v, to, ho, me, ru, rl, fv, sv, au, ai) H1 locs1 → W p l e R s m args below meth c H1 locs1 cells slots Q (F0 m (pc + 1) ls rest)) : W p l e R s m args below meth c H locs cells slots Q (F0 m pc ls (.int (nI v) :: .int (nI i) :: .ref (ad 2) :: rest)) := by
  obtain ⟨hK, hP, hD, hS⟩ := C
  rw [pm_W_eq] at hP hD
  refine va_iast M.1 M.2.1 hK hP hD hS 2 0 rfl rfl (vp_in_nI hi (by decide)) hdg (fun H1 locs1 hP hD hS => ?_)
  rw [nI_clamp (Nat.lt_trans hi (by decide)), pz_updN, pz_set2] at hP hD
  refine kk H1 locs1 ⟨hK, ?_, ?_, hS⟩
  · rw [pm_W_eq]
    exact hP
  · rw [pm_W_eq]
    exact hD
theorem pm_s_to (M : CallFix p m c cc nL s args lw_all RX1) (C : pz_C (pm_W g ad) g A s (fr, hd, sc, fo, wh, to, ho, me, ru, rl, fv, sv, au, ai) H locs) {i : Nat} {v : Bool} (hi : i < 24) (hdg : decode cc pc = .ok (.bastore, 1)) (kk : ∀ (H1 : Heap) (locs1 : List Loc), pz_C (pm_W g ad) g A s (fr, hd, sc, fo, wh, va_up to i v, ho, me, ru, rl, fv, sv, au, ai) H1 locs1 → W p l e R s m args below meth c H1 locs1 cells slots Q (F0 m (pc + 1) ls rest)) : W p l e R s m args below meth c H locs cells slots Q (F0 m pc ls (.int (pz_b v) :: .int (nI i) :: .ref (ad 3) :: rest)) := by
  obtain ⟨hK, hP, hD, hS⟩ := C
  rw [pm_W_eq] at hP hD
  refine va_zast M.1 M.2.1 hK hP hD hS 3 1 rfl rfl (vp_in_nI hi (by decide)) hdg (fun H1 locs1 hP hD hS => ?_)
  rw [nI_clamp (Nat.lt_trans hi (by decide)), pz_narB, pz_updB, pz_set3] at hP hD
  refine kk H1 locs1 ⟨hK, ?_, ?_, hS⟩
  · rw [pm_W_eq]
    exact hP
  · rw [pm_W_eq]
    exact hD
theorem pm_s_ho (M : CallFix p m c cc nL s args lw_all RX1) (C : pz_C (pm_W g ad) g A s (fr, hd, sc, fo, wh, to, ho, me, ru, rl, fv, sv, au, ai) H locs) {i : Nat} {v : Nat} (hi : i < 16) (hdg : decode cc pc = .ok (.iastore, 1)) (kk : ∀ (H1 : Heap) (locs1 : List Loc), pz_C (pm_W g ad) g A s (fr, hd, sc, fo, wh, to, va_up ho i v, me, ru, rl, fv, sv, au, ai) H1 locs1 → W p l e R s m args below meth c H1 locs1 cells slots Q (F0 m (pc + 1) ls rest)) : W p l e R s m args below meth c H locs cells slots Q (F0 m pc ls (.int (nI v) :: .int (nI i) :: .ref (ad 6) :: rest)) := by
  obtain ⟨hK, hP, hD, hS⟩ := C
  rw [pm_W_eq] at hP hD
  refine va_iast M.1 M.2.1 hK hP hD hS 4 0 rfl rfl (vp_in_nI hi (by decide)) hdg (fun H1 locs1 hP hD hS => ?_)
  rw [nI_clamp (Nat.lt_trans hi (by decide)), pz_updN, pz_set4] at hP hD
  refine kk H1 locs1 ⟨hK, ?_, ?_, hS⟩
  · rw [pm_W_eq]
    exact hP
  · rw [pm_W_eq]
    exact hD
theorem pm_s_me (M : CallFix p m c cc nL s args lw_all RX1) (C : pz_C (pm_W g ad) g A s (fr, hd, sc, fo, wh, to, ho, me, ru, rl, fv, sv, au, ai) H locs) {i : Nat} {v : Int32} (hi : i < 64) (hdg : decode cc pc = .ok (.iastore, 1)) (kk : ∀ (H1 : Heap) (locs1 : List Loc), pz_C (pm_W g ad) g A s (fr, hd, sc, fo, wh, to, ho, va_up me i v, ru, rl, fv, sv, au, ai) H1 locs1 → W p l e R s m args below meth c H1 locs1 cells slots Q (F0 m (pc + 1) ls rest)) : W p l e R s m args below meth c H locs cells slots Q (F0 m pc ls (.int (v) :: .int (nI i) :: .ref (ad 7) :: rest)) := by
  obtain ⟨hK, hP, hD, hS⟩ := C
  rw [pm_W_eq] at hP hD
  refine va_iast M.1 M.2.1 hK hP hD hS 5 0 rfl rfl (vp_in_nI hi (by decide)) hdg (fun H1 locs1 hP hD hS => ?_)
  rw [nI_clamp (Nat.lt_trans hi (by decide)), show ∀ (f : Nat → Int32) k x, upd f k x = va_up f k x from fun _ _ _ => rfl, pz_set5] at hP hD
  refine kk H1 locs1 ⟨hK, ?_, ?_, hS⟩
  · rw [pm_W_eq]
    exact hP
  · rw [pm_W_eq]
    exact hD
theorem pm_s_ru (M : CallFix p m c cc nL s args lw_all RX1) (C : pz_C (pm_W g ad) g A s (fr, hd, sc, fo, wh, to, ho, me, ru, rl, fv, sv, au, ai) H locs) {i : Nat} {v : Bool} (hi : i < 24) (hdg : decode cc pc = .ok (.bastore, 1)) (kk : ∀ (H1 : Heap) (locs1 : List Loc), pz_C (pm_W g ad) g A s (fr, hd, sc, fo, wh, to, ho, me, va_up ru i v, rl, fv, sv, au, ai) H1 locs1 → W p l e R s m args below meth c H1 locs1 cells slots Q (F0 m (pc + 1) ls rest)) : W p l e R s m args below meth c H locs cells slots Q (F0 m pc ls (.int (pz_b v) :: .int (nI i) :: .ref (ad 8) :: rest)) := by
  obtain ⟨hK, hP, hD, hS⟩ := C
  rw [pm_W_eq] at hP hD
  refine va_zast M.1 M.2.1 hK hP hD hS 6 1 rfl rfl (vp_in_nI hi (by decide)) hdg (fun H1 locs1 hP hD hS => ?_)
  rw [nI_clamp (Nat.lt_trans hi (by decide)), pz_narB, pz_updB, pz_set6] at hP hD
  refine kk H1 locs1 ⟨hK, ?_, ?_, hS⟩
  · rw [pm_W_eq]
    exact hP
  · rw [pm_W_eq]
    exact hD
theorem pm_s_rl (M : CallFix p m c cc nL s args lw_all RX1) (C : pz_C (pm_W g ad) g A s (fr, hd, sc, fo, wh, to, ho, me, ru, rl, fv, sv, au, ai) H locs) {i : Nat} {v : Nat} (hi : i < 24) (hdg : decode cc pc = .ok (.iastore, 1)) (kk : ∀ (H1 : Heap) (locs1 : List Loc), pz_C (pm_W g ad) g A s (fr, hd, sc, fo, wh, to, ho, me, ru, va_up rl i v, fv, sv, au, ai) H1 locs1 → W p l e R s m args below meth c H1 locs1 cells slots Q (F0 m (pc + 1) ls rest)) : W p l e R s m args below meth c H locs cells slots Q (F0 m pc ls (.int (nI v) :: .int (nI i) :: .ref (ad 9) :: rest)) := by
  obtain ⟨hK, hP, hD, hS⟩ := C
  rw [pm_W_eq] at hP hD
  refine va_iast M.1 M.2.1 hK hP hD hS 7 0 rfl rfl (vp_in_nI hi (by decide)) hdg (fun H1 locs1 hP hD hS => ?_)
  rw [nI_clamp (Nat.lt_trans hi (by decide)), pz_updN, pz_set7] at hP hD
  refine kk H1 locs1 ⟨hK, ?_, ?_, hS⟩
  · rw [pm_W_eq]
    exact hP
  · rw [pm_W_eq]
    exact hD
theorem pm_s_fv (M : CallFix p m c cc nL s args lw_all RX1) (C : pz_C (pm_W g ad) g A s (fr, hd, sc, fo, wh, to, ho, me, ru, rl, fv, sv, au, ai) H locs) {i : Nat} {v : Int32} (hi : i < 24) (hdg : decode cc pc = .ok (.iastore, 1)) (kk : ∀ (H1 : Heap) (locs1 : List Loc), pz_C (pm_W g ad) g A s (fr, hd, sc, fo, wh, to, ho, me, ru, rl, va_up fv i v, sv, au, ai) H1 locs1 → W p l e R s m args below meth c H1 locs1 cells slots Q (F0 m (pc + 1) ls rest)) : W p l e R s m args below meth c H locs cells slots Q (F0 m pc ls (.int (v) :: .int (nI i) :: .ref (ad 10) :: rest)) := by
  obtain ⟨hK, hP, hD, hS⟩ := C
  rw [pm_W_eq] at hP hD
  refine va_iast M.1 M.2.1 hK hP hD hS 8 0 rfl rfl (vp_in_nI hi (by decide)) hdg (fun H1 locs1 hP hD hS => ?_)
  rw [nI_clamp (Nat.lt_trans hi (by decide)), show ∀ (f : Nat → Int32) k x, upd f k x = va_up f k x from fun _ _ _ => rfl, pz_set8] at hP hD
  refine kk H1 locs1 ⟨hK, ?_, ?_, hS⟩
  · rw [pm_W_eq]
    exact hP
  · rw [pm_W_eq]
    exact hD
theorem pm_s_sv (M : CallFix p m c cc nL s args lw_all RX1) (C : pz_C (pm_W g ad) g A s (fr, hd, sc, fo, wh, to, ho, me, ru, rl, fv, sv, au, ai) H locs) {i : Nat} {v : Int32} (hi : i < 24) (hdg : decode cc pc = .ok (.iastore, 1)) (kk : ∀ (H1 : Heap) (locs1 : List Loc), pz_C (pm_W g ad) g A s (fr, hd, sc, fo, wh, to, ho, me, ru, rl, fv, va_up sv i v, au, ai) H1 locs1 → W p l e R s m args below meth c H1 locs1 cells slots Q (F0 m (pc + 1) ls rest)) : W p l e R s m args below meth c H locs cells slots Q (F0 m pc ls (.int (v) :: .int (nI i) :: .ref (ad 11) :: rest)) := by
  obtain ⟨hK, hP, hD, hS⟩ := C
  rw [pm_W_eq] at hP hD
  refine va_iast M.1 M.2.1 hK hP hD hS 9 0 rfl rfl (vp_in_nI hi (by decide)) hdg (fun H1 locs1 hP hD hS => ?_)
  rw [nI_clamp (Nat.lt_trans hi (by decide)), show ∀ (f : Nat → Int32) k x, upd f k x = va_up f k x from fun _ _ _ => rfl, pz_set9] at hP hD
  refine kk H1 locs1 ⟨hK, ?_, ?_, hS⟩
  · rw [pm_W_eq]
    exact hP
  · rw [pm_W_eq]
    exact hD
theorem pm_s_au (M : CallFix p m c cc nL s args lw_all RX1) (C : pz_C (pm_W g ad) g A s (fr, hd, sc, fo, wh, to, ho, me, ru, rl, fv, sv, au, ai) H locs) {i : Nat} {v : Bool} (hi : i < 24) (hdg : decode cc pc = .ok (.bastore, 1)) (kk : ∀ (H1 : Heap) (locs1 : List Loc), pz_C (pm_W g ad) g A s (fr, hd, sc, fo, wh, to, ho, me, ru, rl, fv, sv, va_up au i v, ai) H1 locs1 → W p l e R s m args below meth c H1 locs1 cells slots Q (F0 m (pc + 1) ls rest)) : W p l e R s m args below meth c H locs cells slots Q (F0 m pc ls (.int (pz_b v) :: .int (nI i) :: .ref (ad 12) :: rest)) := by
  obtain ⟨hK, hP, hD, hS⟩ := C
  rw [pm_W_eq] at hP hD
  refine va_zast M.1 M.2.1 hK hP hD hS 10 1 rfl rfl (vp_in_nI hi (by decide)) hdg (fun H1 locs1 hP hD hS => ?_)
  rw [nI_clamp (Nat.lt_trans hi (by decide)), pz_narB, pz_updB, pz_set10] at hP hD
  refine kk H1 locs1 ⟨hK, ?_, ?_, hS⟩
  · rw [pm_W_eq]
    exact hP
  · rw [pm_W_eq]
    exact hD
theorem pm_s_ai (M : CallFix p m c cc nL s args lw_all RX1) (C : pz_C (pm_W g ad) g A s (fr, hd, sc, fo, wh, to, ho, me, ru, rl, fv, sv, au, ai) H locs) {i : Nat} {v : Int32} (hi : i < 96) (hdg : decode cc pc = .ok (.iastore, 1)) (kk : ∀ (H1 : Heap) (locs1 : List Loc), pz_C (pm_W g ad) g A s (fr, hd, sc, fo, wh, to, ho, me, ru, rl, fv, sv, au, va_up ai i v) H1 locs1 → W p l e R s m args below meth c H1 locs1 cells slots Q (F0 m (pc + 1) ls rest)) : W p l e R s m args below meth c H locs cells slots Q (F0 m pc ls (.int (v) :: .int (nI i) :: .ref (ad 13) :: rest)) := by
  obtain ⟨hK, hP, hD, hS⟩ := C
  rw [pm_W_eq] at hP hD
  refine va_iast M.1 M.2.1 hK hP hD hS 11 0 rfl rfl (vp_in_nI hi (by decide)) hdg (fun H1 locs1 hP hD hS => ?_)
  rw [nI_clamp (Nat.lt_trans hi (by decide)), show ∀ (f : Nat → Int32) k x, upd f k x = va_up f k x from fun _ _ _ => rfl, pz_set11] at hP hD
  refine kk H1 locs1 ⟨hK, ?_, ?_, hS⟩
  · rw [pm_W_eq]
    exact hP
  · rw [pm_W_eq]
    exact hD
end PMR
abbrev md_S : Type := (Nat → Int32) × (Nat → Bool)
def md_W (g : pz_G) (ad : Nat → Nat) (μ : md_S) : va_W := [(ad 0, .inr (1, [.ref (ad 1), .ref (ad 2)])), (ad 1, .inl (g.2.1, 96, .inl μ.1)), (ad 2, .inl (g.2.2, 24, .inl (pz_bF μ.2)))]
section MDR
variable {p : Program} {l : Launch} {e : Env} {R : Room} {s : State} {m : MethodId} {args : Array Value} {below : List Frame} {meth : Method} {c : Code} {H : Heap} {locs : List Loc} {cells slots : Nat} {Q : State → Prop}
variable {cc : ByteArray} {pc : Nat} {ls : Array Slot} {rest : List Value} {g : pz_G} {A : Nat → Prop} {ad : Nat → Nat} {wd : Nat → Int32} {re : Nat → Bool} {nL : Nat}
theorem md_g_wd (M : CallFix p m c cc nL s args lw_all RX2) (C : pz_C (md_W g ad) g A s (wd, re) H locs) (hdg : decode cc pc = .ok (.getfield 7, 3)) (kk : W p l e R s m args below meth c H locs cells slots Q (F0 m (pc + 3) ls (.ref (ad 1) :: rest))) : W p l e R s m args below meth c H locs cells slots Q (F0 m pc ls (.ref (ad 0) :: rest)) := va_get (D := g.1) (ci := 1) (v := .ref (ad 1)) (C := RX2) (T := TX2) (N := 2) M.1 M.2.1 M.2.2.2.2 in_X2 M.2.2.2.1 C.1 C.2.1 0 rfl rfl 0 (by decide) (M.2.2.2.2 _ q201) (fun _ h9 => h9) rfl hdg kk
theorem md_g_re (M : CallFix p m c cc nL s args lw_all RX2) (C : pz_C (md_W g ad) g A s (wd, re) H locs) (hdg : decode cc pc = .ok (.getfield 13, 3)) (kk : W p l e R s m args below meth c H locs cells slots Q (F0 m (pc + 3) ls (.ref (ad 2) :: rest))) : W p l e R s m args below meth c H locs cells slots Q (F0 m pc ls (.ref (ad 0) :: rest)) := va_get (D := g.1) (ci := 1) (v := .ref (ad 2)) (C := RX2) (T := TX2) (N := 2) M.1 M.2.1 M.2.2.2.2 in_X2 M.2.2.2.1 C.1 C.2.1 0 rfl rfl 1 (by decide) (M.2.2.2.2 _ q202) (fun _ h9 => h9) rfl hdg kk
theorem md_l_wd (M : CallFix p m c cc nL s args lw_all RX2) (C : pz_C (md_W g ad) g A s (wd, re) H locs) {k : Nat} (hk : k < 96) (hdg : decode cc pc = .ok (.iaload, 1)) (kk : W p l e R s m args below meth c H locs cells slots Q (F0 m (pc + 1) ls (.int (wd k) :: rest))) : W p l e R s m args below meth c H locs cells slots Q (F0 m pc ls (.int (nI k) :: .ref (ad 1) :: rest)) := va_iald M.1 M.2.1 C.1 C.2.1 1 0 rfl rfl (vp_in_nI hk (by decide)) hdg (by rw [nI_clamp (Nat.lt_trans hk (by decide))]; exact kk)
theorem md_l_re (M : CallFix p m c cc nL s args lw_all RX2) (C : pz_C (md_W g ad) g A s (wd, re) H locs) {k : Nat} (hk : k < 24) (hdg : decode cc pc = .ok (.baload, 1)) (kk : W p l e R s m args below meth c H locs cells slots Q (F0 m (pc + 1) ls (.int (pz_b (re k)) :: rest))) : W p l e R s m args below meth c H locs cells slots Q (F0 m pc ls (.int (nI k) :: .ref (ad 2) :: rest)) := va_zald M.1 M.2.1 C.1 C.2.1 2 1 rfl rfl (vp_in_nI hk (by decide)) hdg (by rw [nI_clamp (Nat.lt_trans hk (by decide))]; exact kk)
theorem md_s_wd (M : CallFix p m c cc nL s args lw_all RX2) (C : pz_C (md_W g ad) g A s (wd, re) H locs) {i : Nat} {v : Int32} (hi : i < 96) (hdg : decode cc pc = .ok (.iastore, 1)) (kk : ∀ (H1 : Heap) (locs1 : List Loc), pz_C (md_W g ad) g A s (va_up wd i v, re) H1 locs1 → W p l e R s m args below meth c H1 locs1 cells slots Q (F0 m (pc + 1) ls rest)) : W p l e R s m args below meth c H locs cells slots Q (F0 m pc ls (.int v :: .int (nI i) :: .ref (ad 1) :: rest)) := by
  obtain ⟨hK, hP, hD, hS⟩ := C
  refine va_iast M.1 M.2.1 hK hP hD hS 1 0 rfl rfl (vp_in_nI hi (by decide)) hdg (fun H1 locs1 hP hD hS => ?_)
  rw [nI_clamp (Nat.lt_trans hi (by decide)), show ∀ (f : Nat → Int32) k x, upd f k x = va_up f k x from fun _ _ _ => rfl] at hP hD
  exact kk H1 locs1 ⟨hK, hP, hD, hS⟩
theorem md_s_re (M : CallFix p m c cc nL s args lw_all RX2) (C : pz_C (md_W g ad) g A s (wd, re) H locs) {i : Nat} {v : Bool} (hi : i < 24) (hdg : decode cc pc = .ok (.bastore, 1)) (kk : ∀ (H1 : Heap) (locs1 : List Loc), pz_C (md_W g ad) g A s (wd, va_up re i v) H1 locs1 → W p l e R s m args below meth c H1 locs1 cells slots Q (F0 m (pc + 1) ls rest)) : W p l e R s m args below meth c H locs cells slots Q (F0 m pc ls (.int (pz_b v) :: .int (nI i) :: .ref (ad 2) :: rest)) := by
  obtain ⟨hK, hP, hD, hS⟩ := C
  refine va_zast M.1 M.2.1 hK hP hD hS 2 1 rfl rfl (vp_in_nI hi (by decide)) hdg (fun H1 locs1 hP hD hS => ?_)
  rw [nI_clamp (Nat.lt_trans hi (by decide)), pz_narB, pz_updB] at hP hD
  exact kk H1 locs1 ⟨hK, hP, hD, hS⟩
end MDR
theorem iX1_83 : pz_InS RX1 83 yX1_bad cX1_bad 1 (some .boolean) 1 := ⟨q77, q78, q18, q79, by decide +kernel⟩
theorem iX1_87 : pz_In RX1 87 yX1_own RX1 cX1_own 5 (none) 1 := ⟨q80, q82, qs0, q18, q83, by decide +kernel⟩
theorem iX1_80 : pz_In RX1 80 yX1_bringIn RX1 cX1_bringIn 5 (none) 2 := ⟨q84, q86, qs1, q18, q87, by decide +kernel⟩
theorem iX1_77 : pz_In RX1 77 yX1_takeFrame RX1 cX1_takeFrame 6 (some .int) 2 := ⟨q88, q90, qs2, q18, q91, by decide +kernel⟩
theorem iX1_67 : pz_In RX1 67 yX1_freeFrame RX1 cX1_freeFrame 2 (some .int) 0 := ⟨q92, q94, qs3, q18, q95, by decide +kernel⟩
theorem iX1_74 : pz_In RX1 74 yX1_evict RX1 cX1_evict 3 (none) 1 := ⟨q96, q98, qs4, q18, q99, by decide +kernel⟩
theorem iX1_56 : pz_In RX1 56 yX1_runsOf RX1 cX1_runsOf 7 (some .int) 1 := ⟨q100, q102, qs5, q18, q103, by decide +kernel⟩
theorem iX1_48 : pz_In RX1 48 yX1_peek RX1 cX1_peek 4 (some .int) 2 := ⟨q104, q106, qs6, q18, q107, by decide +kernel⟩
theorem iX1_60 : pz_In RX1 60 yX1_squeeze RX1 cX1_squeeze 4 (none) 2 := ⟨q108, q110, qs7, q18, q111, by decide +kernel⟩
theorem iX1_52 : pz_In RX1 52 yX1_letGo RX1 cX1_letGo 3 (none) 1 := ⟨q112, q114, qs8, q18, q115, by decide +kernel⟩
theorem iX1_64 : pz_In RX1 64 yX1_putAside RX1 cX1_putAside 4 (none) 1 := ⟨q116, q118, qs9, q18, q119, by decide +kernel⟩
theorem iX1_104 : pz_In RX1 104 yX1_merge RX1 cX1_merge 7 (none) 1 := ⟨q140, q142, qs10, q18, q143, by decide +kernel⟩
theorem iX1_94 : pz_In RX1 94 yX1_hashOf RX1 cX1_hashOf 4 (some .int) 1 := ⟨q144, q146, qs11, q18, q147, by decide +kernel⟩
theorem iX1_91 : pz_InS RX1 91 yX1_mixed cX1_mixed 2 (some .int) 2 := ⟨q148, q149, q18, q150, by decide +kernel⟩
theorem iX1_97 : pz_In RX1 97 yX1_equalFrames RX1 cX1_equalFrames 4 (some .boolean) 2 := ⟨q152, q154, qs12, q18, q155, by decide +kernel⟩
theorem iX1_107 : pz_In RX1 107 yX1_equalPages RX1 cX1_equalPages 6 (some .boolean) 2 := ⟨q168, q170, qs13, q18, q171, by decide +kernel⟩
theorem iX1_110 : pz_In RX1 110 yX1_repeats RX1 cX1_repeats 4 (some .boolean) 1 := ⟨q176, q178, qs14, q18, q179, by decide +kernel⟩
theorem iX2_17 : pz_In RX2 17 yX2_isPage RX2 cX2_isPage 2 (some .boolean) 1 := ⟨q212, q214, qs15, q19, q215, by decide +kernel⟩
theorem iX2_21 : pz_In RX2 21 yX2_fill RX2 cX2_fill 4 (some .int) 2 := ⟨q232, q217, q218, q19, q219, by decide +kernel⟩
theorem iX2_25 : pz_In RX2 25 yX2_held RX2 cX2_held 2 (some .boolean) 1 := ⟨q253, q242, q243, q19, q244, by decide +kernel⟩
theorem iX2_32 : pz_In RX2 32 yX2_again RX2 cX2_again 3 (some .boolean) 1 := ⟨q254, q256, qs16, q19, q257, by decide +kernel⟩
theorem iX2_28 : pz_In RX2 28 yX2_same RX2 cX2_same 4 (some .boolean) 2 := ⟨q258, q246, q247, q19, q248, by decide +kernel⟩
theorem iX0_21 : pz_In RX0 21 yX1_write RX1 cX1_write 6 (some .int) 3 := ⟨q73, q74, q75, q18, q76, by decide +kernel⟩
theorem iX0_26 : pz_In RX0 26 yX1_fill RX1 cX1_fill 4 (some .int) 2 := ⟨q120, q121, q122, q18, q123, by decide +kernel⟩
theorem iX0_31 : pz_In RX0 31 yX1_copy RX1 cX1_copy 3 (some .int) 2 := ⟨q124, q125, q126, q18, q127, by decide +kernel⟩
theorem iX0_35 : pz_In RX0 35 yX1_swap RX1 cX1_swap 5 (some .int) 2 := ⟨q128, q129, q130, q18, q131, by decide +kernel⟩
theorem iX0_39 : pz_In RX0 39 yX1_release RX1 cX1_release 2 (some .int) 1 := ⟨q132, q133, q134, q18, q135, by decide +kernel⟩
theorem iX0_44 : pz_In RX0 44 yX1_scan RX1 cX1_scan 4 (none) 1 := ⟨q136, q137, q138, q18, q139, by decide +kernel⟩
theorem iX0_48 : pz_In RX0 48 yX1_read RX1 cX1_read 3 (some .int) 2 := ⟨q156, q157, q158, q18, q159, by decide +kernel⟩
theorem iX0_52 : pz_In RX0 52 yX1_held RX1 cX1_held 2 (some .boolean) 1 := ⟨q160, q161, q162, q18, q163, by decide +kernel⟩
theorem iX0_57 : pz_In RX0 57 yX1_same RX1 cX1_same 3 (some .boolean) 2 := ⟨q164, q165, q166, q18, q167, by decide +kernel⟩
theorem iX0_62 : pz_In RX0 62 yX1_contents RX1 cX1_contents 3 (some .int) 0 := ⟨q172, q173, q174, q18, q175, by decide +kernel⟩
theorem iX0_67 : pz_In RX0 67 yX1_duplicates RX1 cX1_duplicates 3 (some .int) 0 := ⟨q180, q181, q182, q18, q183, by decide +kernel⟩
theorem iX0_71 : pz_In RX0 71 yX1_sum RX1 cX1_sum 5 (some .int) 1 := ⟨q184, q185, q186, q18, q187, by decide +kernel⟩
theorem iX0_75 : pz_In RX0 75 yX1_plain RX1 cX1_plain 4 (some .int) 0 := ⟨q188, q189, q190, q18, q191, by decide +kernel⟩
theorem iX0_9 : pz_InS RX0 9 yX0_cell cX0_cell 2 (some .int) 2 := ⟨q192, q193, q17, q194, by decide +kernel⟩
theorem iX0_25 : pz_In RX0 25 yX2_write RX2 cX2_write 5 (some .int) 3 := ⟨q208, q209, q210, q19, q211, by decide +kernel⟩
theorem iX0_30 : pz_In RX0 30 yX2_fill RX2 cX2_fill 4 (some .int) 2 := ⟨q216, q217, q218, q19, q219, by decide +kernel⟩
theorem iX0_34 : pz_In RX0 34 yX2_copy RX2 cX2_copy 4 (some .int) 2 := ⟨q220, q221, q222, q19, q223, by decide +kernel⟩
theorem iX0_38 : pz_In RX0 38 yX2_swap RX2 cX2_swap 5 (some .int) 2 := ⟨q224, q225, q226, q19, q227, by decide +kernel⟩
theorem iX0_43 : pz_In RX0 43 yX2_release RX2 cX2_release 2 (some .int) 1 := ⟨q228, q229, q230, q19, q231, by decide +kernel⟩
theorem iX0_47 : pz_In RX0 47 yX2_scan RX2 cX2_scan 2 (none) 1 := ⟨q233, q234, q235, q19, q236, by decide +kernel⟩
theorem iX0_51 : pz_In RX0 51 yX2_read RX2 cX2_read 3 (some .int) 2 := ⟨q237, q238, q239, q19, q240, by decide +kernel⟩
theorem iX0_56 : pz_In RX0 56 yX2_held RX2 cX2_held 2 (some .boolean) 1 := ⟨q241, q242, q243, q19, q244, by decide +kernel⟩
theorem iX0_61 : pz_In RX0 61 yX2_same RX2 cX2_same 4 (some .boolean) 2 := ⟨q245, q246, q247, q19, q248, by decide +kernel⟩
theorem iX0_66 : pz_In RX0 66 yX2_contents RX2 cX2_contents 3 (some .int) 0 := ⟨q249, q250, q251, q19, q252, by decide +kernel⟩
theorem iX0_70 : pz_In RX0 70 yX2_duplicates RX2 cX2_duplicates 3 (some .int) 0 := ⟨q259, q260, q261, q19, q262, by decide +kernel⟩
theorem iX0_74 : pz_In RX0 74 yX2_sum RX2 cX2_sum 4 (some .int) 1 := ⟨q263, q264, q265, q19, q266, by decide +kernel⟩
theorem iX0_78 : pz_In RX0 78 yX2_plain RX2 cX2_plain 5 (some .int) 0 := ⟨q267, q268, q269, q19, q270, by decide +kernel⟩
end
section
/-! the plain law of PageMerger's state: counts of holders, records, words -/
def pm_word (fo wh rl : Nat → Nat) (me fv sv ai : Nat → Int32) (p w : Nat) : Int32 :=
  if fo p = 1 then me (wh p * 4 + w) else if fo p = 2 then (if w < rl (wh p) then fv (wh p) else sv (wh p)) else if fo p = 3 then ai (wh p * 4 + w) else 0
def pm_cn (fo wh : Nat → Nat) (f : Nat) : Nat → Nat
  | 0 => 0
  | n + 1 => pm_cn fo wh f n + (if fo n = 1 ∧ wh n = f then 1 else 0)
def pm_Us (fo wh : Nat → Nat) (u : Nat → Bool) (k : Nat) : Prop :=
  (∀ r, r < 24 → u r = true → ∃ p, p < 24 ∧ fo p = k ∧ wh p = r) ∧ (∀ p, p < 24 → fo p = k → u (wh p) = true) ∧ (∀ p q, p < 24 → q < 24 → fo p = k → fo q = k → wh p = wh q → p = q)
/-- the state's own law -/
def pm_I (fr hd sc : Nat) (fo wh ho rl : Nat → Nat) (ru au : Nat → Bool) : Prop :=
  (4 ≤ fr ∧ fr ≤ 16 ∧ hd < 24 ∧ sc < 24) ∧ (∀ p, p < 24 → fo p ≤ 3 ∧ wh p < 24 ∧ (fo p = 1 → wh p < fr)) ∧ (∀ f, f < 16 → ho f = pm_cn fo wh f 24) ∧ (∀ r, r < 24 → rl r ≤ 4) ∧ pm_Us fo wh ru 2 ∧ pm_Us fo wh au 3
/-- page p alone changes its form and place -/
def pm_ch (fo wh fo' wh' : Nat → Nat) (p k r : Nat) : Prop := (∀ q, q < 24 → q ≠ p → fo' q = fo q ∧ wh' q = wh q) ∧ fo' p = k ∧ wh' p = r
theorem cn_le (fo wh : Nat → Nat) (f : Nat) : ∀ n, pm_cn fo wh f n ≤ n := by
  intro n
  induction n with
  | zero => exact Nat.le_refl 0
  | succ n ih =>
    unfold pm_cn
    split <;> omega
theorem cn_ch {fo wh fo' wh' : Nat → Nat} {p : Nat} (f : Nat) : ∀ n : Nat, (∀ q, q < n → q ≠ p → fo' q = fo q ∧ wh' q = wh q) → pm_cn fo' wh' f n + (if p < n ∧ fo p = 1 ∧ wh p = f then 1 else 0) = pm_cn fo wh f n + (if p < n ∧ fo' p = 1 ∧ wh' p = f then 1 else 0) := by
  intro n
  induction n with
  | zero => intro _; simp [pm_cn]
  | succ n ih =>
    intro h
    have ih := ih (fun q hq hne => h q (by omega) hne)
    by_cases hn : n = p
    · subst hn
      simp only [Nat.lt_irrefl, false_and, if_false, Nat.add_zero] at ih
      simp only [pm_cn, ih, Nat.lt_succ_self, true_and]
      split <;> split <;> rfl
    · obtain ⟨e1, e2⟩ := h n (by omega) hn
      have e3 : (p < n + 1) ↔ (p < n) := by omega
      simp only [pm_cn, e1, e2, e3]
      omega
theorem cn_eq {fo wh fo' wh' : Nat → Nat} (f : Nat) : ∀ n : Nat, (∀ q, q < n → fo' q = fo q ∧ wh' q = wh q) → pm_cn fo' wh' f n = pm_cn fo wh f n := by
  intro n
  induction n with
  | zero => intro _; rfl
  | succ n ih =>
    intro h
    obtain ⟨e1, e2⟩ := h n (by omega)
    simp only [pm_cn, e1, e2, ih (fun q hq => h q (by omega))]
theorem cn_ex {fo wh : Nat → Nat} {f : Nat} : ∀ n : Nat, pm_cn fo wh f n ≠ 0 → ∃ p, p < n ∧ fo p = 1 ∧ wh p = f := by
  intro n
  induction n with
  | zero => intro h; exact absurd rfl h
  | succ n ih =>
    intro h
    by_cases hn : fo n = 1 ∧ wh n = f
    · exact ⟨n, by omega, hn⟩
    · simp only [pm_cn, hn, if_false, Nat.add_zero] at h
      obtain ⟨p, h1, h2⟩ := ih h
      exact ⟨p, by omega, h2⟩
theorem cn_pos {fo wh : Nat → Nat} {f p : Nat} : ∀ n : Nat, p < n → fo p = 1 → wh p = f → 1 ≤ pm_cn fo wh f n := by
  intro n
  induction n with
  | zero => intro h; omega
  | succ n ih =>
    intro h h1 h2
    by_cases hn : p = n
    · subst hn
      simp [pm_cn, h1, h2]
    · have := ih (by omega) h1 h2
      simp only [pm_cn]
      omega
theorem cn_two {fo wh : Nat → Nat} {f p q : Nat} : ∀ n : Nat, p < q → q < n → fo p = 1 → wh p = f → fo q = 1 → wh q = f → 2 ≤ pm_cn fo wh f n := by
  intro n
  induction n with
  | zero => intro _ h; omega
  | succ n ih =>
    intro hpq h h1 h2 h3 h4
    by_cases hn : q = n
    · subst hn
      have := cn_pos (fo := fo) (wh := wh) q hpq h1 h2
      simp [pm_cn, h3, h4]
      omega
    · have := ih hpq (by omega) h1 h2 h3 h4
      simp only [pm_cn]
      omega
theorem cn_only {fo wh : Nat → Nat} {f p q : Nat} (h : pm_cn fo wh f 24 = 1) (hp : p < 24) (hq : q < 24) (h1 : fo p = 1) (h2 : wh p = f) (h3 : fo q = 1) (h4 : wh q = f) : p = q := by
  rcases Nat.lt_trichotomy p q with a | a | a
  · have := cn_two 24 a hq h1 h2 h3 h4
    omega
  · exact a
  · have := cn_two 24 a hp h3 h4 h1 h2
    omega
theorem ho_leave {fo wh fo' wh' ho : Nat → Nat} {p k r : Nat} (h : ∀ f, f < 16 → ho f = pm_cn fo wh f 24) (hp : p < 24) (h1 : fo p = 1) (ch : pm_ch fo wh fo' wh' p k r) (hk : k ≠ 1) : ∀ f, f < 16 → va_up ho (wh p) (ho (wh p) - 1) f = pm_cn fo' wh' f 24 := by
  intro f hf
  have e := cn_ch (p := p) f 24 (fun q hq hne => ch.1 q hq hne)
  rw [ch.2.1, ch.2.2] at e
  by_cases hfp : f = wh p
  · subst hfp
    rw [va_up_self, h _ hf]
    simp [hp, h1, hk] at e
    omega
  · rw [va_up_ne _ _ hfp, h f hf]
    simp [hp, h1, hk, Ne.symm hfp] at e
    omega
theorem ho_join {fo wh fo' wh' ho : Nat → Nat} {p r : Nat} (h : ∀ f, f < 16 → ho f = pm_cn fo wh f 24) (hp : p < 24) (h1 : fo p ≠ 1) (ch : pm_ch fo wh fo' wh' p 1 r) : ∀ f, f < 16 → va_up ho r (ho r + 1) f = pm_cn fo' wh' f 24 := by
  intro f hf
  have e := cn_ch (p := p) f 24 (fun q hq hne => ch.1 q hq hne)
  rw [ch.2.1, ch.2.2] at e
  by_cases hfp : f = r
  · subst hfp
    rw [va_up_self, h _ hf]
    simp [hp, h1] at e
    omega
  · rw [va_up_ne _ _ hfp, h f hf]
    simp [hp, h1, Ne.symm hfp] at e
    omega
theorem ho_stay {fo wh fo' wh' ho : Nat → Nat} {p k r : Nat} (h : ∀ f, f < 16 → ho f = pm_cn fo wh f 24) (hp : p < 24) (h1 : fo p ≠ 1) (ch : pm_ch fo wh fo' wh' p k r) (hk : k ≠ 1) : ∀ f, f < 16 → ho f = pm_cn fo' wh' f 24 := by
  intro f hf
  have e := cn_ch (p := p) f 24 (fun q hq hne => ch.1 q hq hne)
  rw [ch.2.1, ch.2.2] at e
  rw [h f hf]
  simp [h1, hk] at e
  omega
theorem ho_move {fo wh fo' wh' ho : Nat → Nat} {p r : Nat} (h : ∀ f, f < 16 → ho f = pm_cn fo wh f 24) (hp : p < 24) (h1 : fo p = 1) (ch : pm_ch fo wh fo' wh' p 1 r) (hr : r ≠ wh p) : ∀ f, f < 16 → va_up (va_up ho (wh p) (ho (wh p) - 1)) r (ho r + 1) f = pm_cn fo' wh' f 24 := by
  intro f hf
  have e := cn_ch (p := p) f 24 (fun q hq hne => ch.1 q hq hne)
  rw [ch.2.1, ch.2.2] at e
  by_cases hfr : f = r
  · subst hfr
    rw [va_up_self, h _ hf]
    simp [hp, h1, Ne.symm hr] at e
    omega
  · rw [va_up_ne _ _ hfr]
    by_cases hfp : f = wh p
    · subst hfp
      rw [va_up_self, h _ hf]
      simp [hp, h1, hr] at e
      omega
    · rw [va_up_ne _ _ hfp, h f hf]
      simp [hp, h1, Ne.symm hfp, Ne.symm hfr] at e
      omega
theorem us_leave {fo wh fo' wh' : Nat → Nat} {u : Nat → Bool} {p k k' r : Nat} (h : pm_Us fo wh u k) (hp : p < 24) (h1 : fo p = k) (ch : pm_ch fo wh fo' wh' p k' r) (hk : k' ≠ k) : pm_Us fo' wh' (va_up u (wh p) false) k := by
  obtain ⟨a, b, c⟩ := h
  obtain ⟨d, d1, d2⟩ := ch
  have nep : ∀ q, fo' q = k → q ≠ p := fun q hq e => hk (by rw [← d1, ← e]; exact hq)
  refine ⟨fun r0 hr hu => ?_, fun q hq hf => ?_, fun q q2 hq hq2 hf hf2 hw => ?_⟩
  · have hne : r0 ≠ wh p := by
      intro e
      rw [e, va_up_self] at hu
      cases hu
    rw [va_up_ne _ _ hne] at hu
    obtain ⟨q, hq, hf, hw⟩ := a r0 hr hu
    have hqp : q ≠ p := by
      intro e
      rw [e] at hw
      exact hne hw.symm
    obtain ⟨e1, e2⟩ := d q hq hqp
    exact ⟨q, hq, by rw [e1]; exact hf, by rw [e2]; exact hw⟩
  · have hqp := nep q hf
    obtain ⟨e1, e2⟩ := d q hq hqp
    rw [e1] at hf
    rw [e2, va_up_ne _ _ (fun e => hqp (c q p hq hp hf h1 e))]
    exact b q hq hf
  · obtain ⟨e1, e2⟩ := d q hq (nep q hf)
    obtain ⟨e3, e4⟩ := d q2 hq2 (nep q2 hf2)
    rw [e1] at hf
    rw [e3] at hf2
    rw [e2, e4] at hw
    exact c q q2 hq hq2 hf hf2 hw
theorem us_stay {fo wh fo' wh' : Nat → Nat} {u : Nat → Bool} {p k k' r : Nat} (h : pm_Us fo wh u k) (h1 : fo p ≠ k) (ch : pm_ch fo wh fo' wh' p k' r) (hk : k' ≠ k) : pm_Us fo' wh' u k := by
  obtain ⟨a, b, c⟩ := h
  obtain ⟨d, d1, d2⟩ := ch
  have nep : ∀ q, fo' q = k → q ≠ p := fun q hq e => hk (by rw [← d1, ← e]; exact hq)
  refine ⟨fun r0 hr hu => ?_, fun q hq hf => ?_, fun q q2 hq hq2 hf hf2 hw => ?_⟩
  · obtain ⟨q, hq, hf, hw⟩ := a r0 hr hu
    have hqp : q ≠ p := by
      intro e
      rw [e] at hf
      exact h1 hf
    obtain ⟨e1, e2⟩ := d q hq hqp
    exact ⟨q, hq, by rw [e1]; exact hf, by rw [e2]; exact hw⟩
  · obtain ⟨e1, e2⟩ := d q hq (nep q hf)
    rw [e1] at hf
    rw [e2]
    exact b q hq hf
  · obtain ⟨e1, e2⟩ := d q hq (nep q hf)
    obtain ⟨e3, e4⟩ := d q2 hq2 (nep q2 hf2)
    rw [e1] at hf
    rw [e3] at hf2
    rw [e2, e4] at hw
    exact c q q2 hq hq2 hf hf2 hw
theorem us_join {fo wh fo' wh' : Nat → Nat} {u : Nat → Bool} {p k r : Nat} (h : pm_Us fo wh u k) (hp : p < 24) (h1 : fo p ≠ k) (ch : pm_ch fo wh fo' wh' p k r) (hu : u r = false) : pm_Us fo' wh' (va_up u r true) k := by
  obtain ⟨a, b, c⟩ := h
  obtain ⟨d, d1, d2⟩ := ch
  have old : ∀ q, q < 24 → q ≠ p → fo' q = k → wh' q ≠ r := by
    intro q hq hqp hf e
    obtain ⟨e1, e2⟩ := d q hq hqp
    rw [e1] at hf
    rw [e2] at e
    have := b q hq hf
    rw [e, hu] at this
    cases this
  refine ⟨fun r0 hr hu0 => ?_, fun q hq hf => ?_, fun q q2 hq hq2 hf hf2 hw => ?_⟩
  · by_cases hr0 : r0 = r
    · exact ⟨p, hp, d1, by rw [d2, hr0]⟩
    · rw [va_up_ne _ _ hr0] at hu0
      obtain ⟨q, hq, hf, hw⟩ := a r0 hr hu0
      have hqp : q ≠ p := by
        intro e
        rw [e] at hf
        exact h1 hf
      obtain ⟨e1, e2⟩ := d q hq hqp
      exact ⟨q, hq, by rw [e1]; exact hf, by rw [e2]; exact hw⟩
  · by_cases hqp : q = p
    · rw [hqp, d2, va_up_self]
    · rw [va_up_ne _ _ (old q hq hqp hf)]
      obtain ⟨e1, e2⟩ := d q hq hqp
      rw [e1] at hf
      rw [e2]
      exact b q hq hf
  · by_cases hqp : q = p
    · by_cases hqp2 : q2 = p
      · rw [hqp, hqp2]
      · rw [hqp, d2] at hw
        exact absurd hw.symm (old q2 hq2 hqp2 hf2)
    · by_cases hqp2 : q2 = p
      · rw [hqp2, d2] at hw
        exact absurd hw (old q hq hqp hf)
      · obtain ⟨e1, e2⟩ := d q hq hqp
        obtain ⟨e3, e4⟩ := d q2 hq2 hqp2
        rw [e1] at hf
        rw [e3] at hf2
        rw [e2, e4] at hw
        exact c q q2 hq hq2 hf hf2 hw
theorem pz_php : ∀ (n : Nat) (g : Nat → Nat), (∀ i, i < n + 1 → g i < n) → ∃ i j, i < j ∧ j < n + 1 ∧ g i = g j := by
  intro n
  induction n with
  | zero =>
    intro g h
    have := h 0 (by omega)
    omega
  | succ n ih =>
    intro g h
    by_cases hx : ∃ i, i < n + 1 ∧ g i = g (n + 1)
    · obtain ⟨i, h1, h2⟩ := hx
      exact ⟨i, n + 1, h1, by omega, h2⟩
    · have hv := h (n + 1) (by omega)
      have ne : ∀ i, i < n + 1 → g i ≠ g (n + 1) := fun i hi e => hx ⟨i, hi, e⟩
      obtain ⟨i, j, h1, h2, h3⟩ := ih (fun i => if g (n + 1) < g i then g i - 1 else g i) (fun i hi => by
        have a := h i (by omega)
        have b := ne i hi
        split <;> omega)
      refine ⟨i, j, h1, by omega, ?_⟩
      have a := ne i (by omega)
      have b := ne j (by omega)
      split at h3 <;> split at h3 <;> omega
theorem us_free {fo wh : Nat → Nat} {u : Nat → Bool} {p k : Nat} (h : pm_Us fo wh u k) (hp : p < 24) (h1 : fo p ≠ k) : ∃ r, r < 24 ∧ u r = false := by
  apply Classical.byContradiction
  intro hn
  have all : ∀ r, r < 24 → u r = true := by
    intro r hr
    cases hu : u r with
    | true => rfl
    | false => exact absurd ⟨r, hr, hu⟩ hn
  have ex : ∀ r, ∃ q, r < 24 → q < 24 ∧ fo q = k ∧ wh q = r := by
    intro r
    by_cases hr : r < 24
    · obtain ⟨q, a, b, c⟩ := h.1 r hr (all r hr)
      exact ⟨q, fun _ => ⟨a, b, c⟩⟩
    · exact ⟨0, fun h => absurd h hr⟩
  obtain ⟨g, sp⟩ : ∃ g : Nat → Nat, ∀ r, r < 24 → g r < 24 ∧ fo (g r) = k ∧ wh (g r) = r := ⟨fun r => Classical.choose (ex r), fun r => Classical.choose_spec (ex r)⟩
  have nep : ∀ r, r < 24 → g r ≠ p := fun r hr e => h1 (by rw [← e]; exact (sp r hr).2.1)
  obtain ⟨i, j, a, b, c⟩ := pz_php 23 (fun r => if p < g r then g r - 1 else g r) (fun i hi => by
    have x := sp i hi
    have y := nep i hi
    split <;> omega)
  have x := sp i (by omega)
  have y := sp j (by omega)
  have x2 := nep i (by omega)
  have y2 := nep j (by omega)
  have e : g i = g j := by
    split at c <;> split at c <;> omega
  rw [e, y.2.2] at x
  omega
/-- pages in frames but two: one of the first four frames is free -/
theorem cn_free {fo wh : Nat → Nat} {a b : Nat} (h : ∀ q, q < 24 → fo q = 1 → q = a ∨ q = b) : ∃ f, f < 4 ∧ pm_cn fo wh f 24 = 0 := by
  apply Classical.byContradiction
  intro hn
  have ex : ∀ f, f < 4 → ∃ q, q < 24 ∧ fo q = 1 ∧ wh q = f := fun f hf => cn_ex 24 (fun e => hn ⟨f, hf, e⟩)
  obtain ⟨q0, a0, b0, c0⟩ := ex 0 (by omega)
  obtain ⟨q1, a1, b1, c1⟩ := ex 1 (by omega)
  obtain ⟨q2, a2, b2, c2⟩ := ex 2 (by omega)
  have e0 := h q0 a0 b0
  have e1 := h q1 a1 b1
  have e2 := h q2 a2 b2
  have n01 : q0 ≠ q1 := fun e => by rw [e, c1] at c0; cases c0
  have n02 : q0 ≠ q2 := fun e => by rw [e, c2] at c0; cases c0
  have n12 : q1 ≠ q2 := fun e => by rw [e, c2] at c1; cases c1
  omega
theorem word_eq {fo wh rl fo' wh' rl' : Nat → Nat} {me fv sv ai me' fv' sv' ai' : Nat → Int32} {q w : Nat} (h1 : fo' q = fo q) (h2 : wh' q = wh q) (h3 : fo q = 1 → me' (wh q * 4 + w) = me (wh q * 4 + w)) (h4 : fo q = 2 → rl' (wh q) = rl (wh q) ∧ fv' (wh q) = fv (wh q) ∧ sv' (wh q) = sv (wh q)) (h5 : fo q = 3 → ai' (wh q * 4 + w) = ai (wh q * 4 + w)) : pm_word fo' wh' rl' me' fv' sv' ai' q w = pm_word fo wh rl me fv sv ai q w := by
  unfold pm_word
  rw [h1, h2]
  by_cases a : fo q = 1
  · rw [if_pos a, if_pos a]
    exact h3 a
  · rw [if_neg a, if_neg a]
    by_cases b : fo q = 2
    · rw [if_pos b, if_pos b, (h4 b).1, (h4 b).2.1, (h4 b).2.2]
    · rw [if_neg b, if_neg b]
      by_cases d : fo q = 3
      · rw [if_pos d, if_pos d]
        exact h5 d
      · rw [if_neg d, if_neg d]
end
section
/-! what the contracts say of states -/
def ps_w (σ : pm_S) (p w : Nat) : Int32 := pm_word (ps_fo σ) (ps_wh σ) (ps_rl σ) (ps_me σ) (ps_fv σ) (ps_sv σ) (ps_ai σ) p w
def ps_I (σ : pm_S) : Prop := pm_I (ps_fr σ) (ps_hd σ) (ps_sc σ) (ps_fo σ) (ps_wh σ) (ps_ho σ) (ps_rl σ) (ps_ru σ) (ps_au σ)
/-- page p can be looked at -/
def ps_ok (σ : pm_S) (p : Nat) : Prop := p < 24 ∧ ps_fo σ p ≤ 3 ∧ ps_wh σ p < 24 ∧ (ps_fo σ p = 1 → ps_wh σ p < 16) ∧ ∀ r, r < 24 → ps_rl σ r ≤ 4
theorem ps_ok_I {σ : pm_S} {p : Nat} (h : ps_I σ) (hp : p < 24) : ps_ok σ p := by
  obtain ⟨⟨_, h1, _, _⟩, h2, _, h4, _⟩ := h
  obtain ⟨a, b, c⟩ := h2 p hp
  exact ⟨hp, a, b, fun e => Nat.lt_of_lt_of_le (c e) h1, h4⟩
/-- the state when page p was given up -/
def ps_lg (σ : pm_S) (p : Nat) : pm_S := match σ with
  | (fr, hd, sc, fo, wh, to, ho, me, ru, rl, fv, sv, au, ai) =>
    if fo p = 1 then (fr, hd, sc, va_up fo p 0, wh, to, va_up ho (wh p) (ho (wh p) - 1), me, ru, rl, fv, sv, au, ai)
    else if fo p = 2 then (fr, hd, sc, va_up fo p 0, wh, to, ho, me, va_up ru (wh p) false, rl, fv, sv, au, ai)
    else if fo p = 3 then (fr, hd, sc, va_up fo p 0, wh, to, ho, me, ru, rl, fv, sv, va_up au (wh p) false, ai)
    else (fr, hd, sc, va_up fo p 0, wh, to, ho, me, ru, rl, fv, sv, au, ai)
/-- n: the length of the first run of at most two, or 0 -/
def pm_runs (W : Nat → Int32) (n : Nat) : Prop := n ≤ 4 ∧ (0 < n → (∀ w, w < n → W w = W 0) ∧ ∀ w, n ≤ w → w < 4 → W w = W n) ∧ (n = 4 ↔ ∀ w, w < 4 → W w = W 0)
/-- the same pages are gone, and all words are the same -/
def ps_Eq (σ u : pm_S) : Prop := ∀ q, q < 24 → (ps_fo u q = 0 ↔ ps_fo σ q = 0) ∧ ∀ w, w < 4 → ps_w u q w = ps_w σ q w
/-- page p left its frame, nothing else happened -/
def ps_Ev (σ : pm_S) (p : Nat) (u : pm_S) : Prop := ps_I u ∧ ps_Eq σ u ∧ ps_fo u p ≠ 1 ∧ (∀ q, q < 24 → q ≠ p → ps_fo u q = ps_fo σ q ∧ ps_wh u q = ps_wh σ q) ∧ ps_to u = ps_to σ ∧ ps_hd u = ps_hd σ ∧ ps_sc u = ps_sc σ ∧ ps_fr u = ps_fr σ
def pz_isP (x : Int32) : Prop := ∃ k : Nat, k < 24 ∧ x = nI k
end
section
/-! PageMerger: methods that call no other -/
set_option maxRecDepth 100000
set_option maxHeartbeats 4000000 in
set_option maxRecDepth 100000 in
/-- peek(p, w): the word, nothing changes -/
theorem mtX1_peek {l : Launch} {g : pz_G} {ad : Nat → Nat} {σ : pm_S} {p0 w0 : Nat} (ok : ps_ok σ p0) (hw : w0 < 4) : pz_Mi l yX1_peek cX1_peek 4 .int ({ frames := 0, cells := 0, slots := 0, locals := 0 }) (pm_W g ad) g σ [.ref (ad 0), .int (nI p0), .int (nI w0)] (fun r u => u = σ ∧ r = ps_w σ p0 w0) := by
  obtain ⟨fr, hd, sc, fo, wh, to, ho, me, ru, rl, fv, sv, au, ai⟩ := σ
  have ok : p0 < 24 ∧ fo p0 ≤ 3 ∧ wh p0 < 24 ∧ (fo p0 = 1 → wh p0 < 16) ∧ ∀ r, r < 24 → rl r ≤ 4 := ok
  obtain ⟨o1, o2, o3, o4, o5⟩ := ok
  refine pz_enterI (by decide) (Nat.le_of_ble_eq_true rfl) ?_
  intro p e s m args below meth c A Q M hA ret C ls hl
  have hx := M.1
  have hb := M.2.1
  have hl : lv_has ls 4 [(0, .ref (ad 0)), (1, .int (nI p0)), (2, .int (nI w0))] := hl
  refine lv_aload_n hx hb dX1_peek_0 rfl (lv_at hl 0 rfl) ?_
  refine pm_g_wh M C dX1_peek_1 ?_
  refine lv_iload_n hx hb dX1_peek_4 rfl (lv_at hl 1 rfl) ?_
  refine pm_l_wh M C (by omega) dX1_peek_5 ?_
  refine lv_istore_n (lv' := [(3, _), (0, _), (1, _), (2, _)]) hx hb dX1_peek_6 rfl hl (by decide) rfl (fun ls hl => ?_)
  refine lv_aload_n hx hb dX1_peek_7 rfl (lv_at hl 1 rfl) ?_
  refine pm_g_fo M C dX1_peek_8 ?_
  refine lv_iload_n hx hb dX1_peek_11 rfl (lv_at hl 2 rfl) ?_
  refine pm_l_fo M C (by omega) dX1_peek_12 ?_
  rcases (show fo p0 = 0 ∨ fo p0 = 1 ∨ fo p0 = 2 ∨ fo p0 = 3 by omega) with h | h | h | h
  · rw [h]
    refine lv_tableOut (tgt := 88) hx hb dX1_peek_13 (by decide +kernel) (by decide) ?_
    refine lv_iconst (v := 0) hx hb dX1_peek_88 (by decide +kernel) ?_
    exact ret _ _ _ _ _ _ C dX1_peek_89 rfl ⟨rfl, by simp [ps_w, pm_word, ps_fo, ps_wh, ps_rl, ps_me, ps_fv, ps_sv, ps_ai, h]⟩
  · rw [h]
    have h16 := o4 h
    refine lv_tableIn (off := 27) (tgt := 40) hx hb dX1_peek_13 (by decide +kernel) (by decide +kernel) (by decide +kernel) (by decide) ?_
    refine lv_aload_n hx hb dX1_peek_40 rfl (lv_at hl 1 rfl) ?_
    refine pm_g_me M C dX1_peek_41 ?_
    refine lv_iload_n hx hb dX1_peek_44 rfl (lv_at hl 0 rfl) ?_
    refine lv_iconst (v := nI 4) hx hb dX1_peek_45 (by decide +kernel) ?_
    refine pz_imulN M dX1_peek_46 ?_
    refine lv_iload_n hx hb dX1_peek_47 rfl (lv_at hl 3 rfl) ?_
    refine pz_iaddN M dX1_peek_48 ?_
    refine pm_l_me M C (by omega) dX1_peek_49 ?_
    exact ret _ _ _ _ _ _ C dX1_peek_50 rfl ⟨rfl, by simp [ps_w, pm_word, ps_fo, ps_wh, ps_rl, ps_me, ps_fv, ps_sv, ps_ai, h]⟩
  · rw [h]
    have h4 := o5 _ o3
    refine lv_tableIn (off := 38) (tgt := 51) hx hb dX1_peek_13 (by decide +kernel) (by decide +kernel) (by decide +kernel) (by decide) ?_
    refine lv_iload_n hx hb dX1_peek_51 rfl (lv_at hl 3 rfl) ?_
    refine lv_aload_n hx hb dX1_peek_52 rfl (lv_at hl 1 rfl) ?_
    refine pm_g_rl M C dX1_peek_53 ?_
    refine lv_iload_n hx hb dX1_peek_56 rfl (lv_at hl 0 rfl) ?_
    refine pm_l_rl M C (by omega) dX1_peek_57 ?_
    refine pz_cge (tgt := 70) M (by omega) (by omega) dX1_peek_58 (by decide) (fun h58 => ?_) (fun h58 => ?_)
    · refine lv_aload_n hx hb dX1_peek_70 rfl (lv_at hl 1 rfl) ?_
      refine pm_g_sv M C dX1_peek_71 ?_
      refine lv_iload_n hx hb dX1_peek_74 rfl (lv_at hl 0 rfl) ?_
      refine pm_l_sv M C (by omega) dX1_peek_75 ?_
      exact ret _ _ _ _ _ _ C dX1_peek_76 rfl ⟨rfl, by simp [ps_w, pm_word, ps_fo, ps_wh, ps_rl, ps_me, ps_fv, ps_sv, ps_ai, h, Nat.not_lt.mpr h58]⟩
    · refine lv_aload_n hx hb dX1_peek_61 rfl (lv_at hl 1 rfl) ?_
      refine pm_g_fv M C dX1_peek_62 ?_
      refine lv_iload_n hx hb dX1_peek_65 rfl (lv_at hl 0 rfl) ?_
      refine pm_l_fv M C (by omega) dX1_peek_66 ?_
      refine lv_goto (tgt := 76) hx hb dX1_peek_67 (by decide) ?_
      exact ret _ _ _ _ _ _ C dX1_peek_76 rfl ⟨rfl, by simp [ps_w, pm_word, ps_fo, ps_wh, ps_rl, ps_me, ps_fv, ps_sv, ps_ai, h, h58]⟩
  · rw [h]
    refine lv_tableIn (off := 64) (tgt := 77) hx hb dX1_peek_13 (by decide +kernel) (by decide +kernel) (by decide +kernel) (by decide) ?_
    refine lv_aload_n hx hb dX1_peek_77 rfl (lv_at hl 1 rfl) ?_
    refine pm_g_ai M C dX1_peek_78 ?_
    refine lv_iload_n hx hb dX1_peek_81 rfl (lv_at hl 0 rfl) ?_
    refine lv_iconst (v := nI 4) hx hb dX1_peek_82 (by decide +kernel) ?_
    refine pz_imulN M dX1_peek_83 ?_
    refine lv_iload_n hx hb dX1_peek_84 rfl (lv_at hl 3 rfl) ?_
    refine pz_iaddN M dX1_peek_85 ?_
    refine pm_l_ai M C (by omega) dX1_peek_86 ?_
    exact ret _ _ _ _ _ _ C dX1_peek_87 rfl ⟨rfl, by simp [ps_w, pm_word, ps_fo, ps_wh, ps_rl, ps_me, ps_fv, ps_sv, ps_ai, h]⟩
set_option maxHeartbeats 4000000 in
set_option maxRecDepth 100000 in
/-- letGo(p): the page is given up -/
theorem mtX1_letGo {l : Launch} {g : pz_G} {ad : Nat → Nat} {σ : pm_S} {p0 : Nat} (ok : ps_ok σ p0) (hh : ps_fo σ p0 = 1 → 1 ≤ ps_ho σ (ps_wh σ p0)) : pz_Mv l yX1_letGo cX1_letGo 3 ({ frames := 0, cells := 0, slots := 0, locals := 0 }) (pm_W g ad) g σ [.ref (ad 0), .int (nI p0)] (fun u => u = ps_lg σ p0) := by
  obtain ⟨fr, hd, sc, fo, wh, to, ho, me, ru, rl, fv, sv, au, ai⟩ := σ
  have ok : p0 < 24 ∧ fo p0 ≤ 3 ∧ wh p0 < 24 ∧ (fo p0 = 1 → wh p0 < 16) ∧ ∀ r, r < 24 → rl r ≤ 4 := ok
  have hh : fo p0 = 1 → 1 ≤ ho (wh p0) := hh
  obtain ⟨o1, o2, o3, o4, o5⟩ := ok
  refine pz_enterV (by decide) (Nat.le_of_ble_eq_true rfl) ?_
  intro p e s m args below meth c A Q M hA ret C ls hl
  have hx := M.1
  have hb := M.2.1
  have hl : lv_has ls 3 [(0, .ref (ad 0)), (1, .int (nI p0))] := hl
  rcases (show fo p0 = 0 ∨ fo p0 = 1 ∨ fo p0 = 2 ∨ fo p0 = 3 by omega) with h | h | h | h
  · refine lv_aload_n hx hb dX1_letGo_0 rfl (lv_at hl 0 rfl) ?_
    refine pm_g_wh M C dX1_letGo_1 ?_
    refine lv_iload_n hx hb dX1_letGo_4 rfl (lv_at hl 1 rfl) ?_
    refine pm_l_wh M C (by omega) dX1_letGo_5 ?_
    refine lv_istore_n (lv' := [(2, _), (0, _), (1, _)]) hx hb dX1_letGo_6 rfl hl (by decide) rfl (fun ls hl => ?_)
    refine lv_aload_n hx hb dX1_letGo_7 rfl (lv_at hl 1 rfl) ?_
    refine pm_g_fo M C dX1_letGo_8 ?_
    refine lv_iload_n hx hb dX1_letGo_11 rfl (lv_at hl 2 rfl) ?_
    refine pm_l_fo M C (by omega) dX1_letGo_12 ?_
    refine lv_iconst (v := nI 1) hx hb dX1_letGo_13 (by decide +kernel) ?_
    refine pz_cne (tgt := 27) M (by omega) (by omega) dX1_letGo_14 (by decide) (fun h14 => ?_) (fun h14 => ?_)
    · refine lv_aload_n hx hb dX1_letGo_27 rfl (lv_at hl 1 rfl) ?_
      refine pm_g_fo M C dX1_letGo_28 ?_
      refine lv_iload_n hx hb dX1_letGo_31 rfl (lv_at hl 2 rfl) ?_
      refine pm_l_fo M C (by omega) dX1_letGo_32 ?_
      refine lv_iconst (v := nI 2) hx hb dX1_letGo_33 (by decide +kernel) ?_
      refine pz_cne (tgt := 44) M (by omega) (by omega) dX1_letGo_34 (by decide) (fun h34 => ?_) (fun h34 => ?_)
      · refine lv_aload_n hx hb dX1_letGo_44 rfl (lv_at hl 1 rfl) ?_
        refine pm_g_fo M C dX1_letGo_45 ?_
        refine lv_iload_n hx hb dX1_letGo_48 rfl (lv_at hl 2 rfl) ?_
        refine pm_l_fo M C (by omega) dX1_letGo_49 ?_
        refine lv_iconst (v := nI 3) hx hb dX1_letGo_50 (by decide +kernel) ?_
        refine pz_cne (tgt := 61) M (by omega) (by omega) dX1_letGo_51 (by decide) (fun h51 => ?_) (fun h51 => ?_)
        · refine lv_aload_n hx hb dX1_letGo_61 rfl (lv_at hl 1 rfl) ?_
          refine pm_g_fo M C dX1_letGo_62 ?_
          refine lv_iload_n hx hb dX1_letGo_65 rfl (lv_at hl 2 rfl) ?_
          refine lv_iconst (v := nI 0) hx hb dX1_letGo_66 (by decide +kernel) ?_
          refine pm_s_fo M C (by omega) dX1_letGo_67 (fun H locs C => ?_)
          exact ret _ _ _ _ _ C dX1_letGo_68 (by simp [ps_lg, h])
        · exfalso; omega
      · exfalso; omega
    · exfalso; omega
  · have h16 := o4 h
    have hh1 := hh h
    refine lv_aload_n hx hb dX1_letGo_0 rfl (lv_at hl 0 rfl) ?_
    refine pm_g_wh M C dX1_letGo_1 ?_
    refine lv_iload_n hx hb dX1_letGo_4 rfl (lv_at hl 1 rfl) ?_
    refine pm_l_wh M C (by omega) dX1_letGo_5 ?_
    refine lv_istore_n (lv' := [(2, _), (0, _), (1, _)]) hx hb dX1_letGo_6 rfl hl (by decide) rfl (fun ls hl => ?_)
    refine lv_aload_n hx hb dX1_letGo_7 rfl (lv_at hl 1 rfl) ?_
    refine pm_g_fo M C dX1_letGo_8 ?_
    refine lv_iload_n hx hb dX1_letGo_11 rfl (lv_at hl 2 rfl) ?_
    refine pm_l_fo M C (by omega) dX1_letGo_12 ?_
    refine lv_iconst (v := nI 1) hx hb dX1_letGo_13 (by decide +kernel) ?_
    refine pz_cne (tgt := 27) M (by omega) (by omega) dX1_letGo_14 (by decide) (fun h14 => ?_) (fun h14 => ?_)
    · exfalso; omega
    · refine lv_aload_n hx hb dX1_letGo_17 rfl (lv_at hl 1 rfl) ?_
      refine pm_g_ho M C dX1_letGo_18 ?_
      refine lv_iload_n hx hb dX1_letGo_21 rfl (lv_at hl 0 rfl) ?_
      refine lv_dup2_11 hx hb dX1_letGo_22 rfl rfl ?_
      refine pm_l_ho M C (by omega) dX1_letGo_23 ?_
      refine lv_iconst (v := nI 1) hx hb dX1_letGo_24 (by decide +kernel) ?_
      refine pz_isubN M (by omega) dX1_letGo_25 ?_
      refine pm_s_ho M C (by omega) dX1_letGo_26 (fun H locs C => ?_)
      refine lv_aload_n hx hb dX1_letGo_27 rfl (lv_at hl 1 rfl) ?_
      refine pm_g_fo M C dX1_letGo_28 ?_
      refine lv_iload_n hx hb dX1_letGo_31 rfl (lv_at hl 2 rfl) ?_
      refine pm_l_fo M C (by omega) dX1_letGo_32 ?_
      refine lv_iconst (v := nI 2) hx hb dX1_letGo_33 (by decide +kernel) ?_
      refine pz_cne (tgt := 44) M (by omega) (by omega) dX1_letGo_34 (by decide) (fun h34 => ?_) (fun h34 => ?_)
      · refine lv_aload_n hx hb dX1_letGo_44 rfl (lv_at hl 1 rfl) ?_
        refine pm_g_fo M C dX1_letGo_45 ?_
        refine lv_iload_n hx hb dX1_letGo_48 rfl (lv_at hl 2 rfl) ?_
        refine pm_l_fo M C (by omega) dX1_letGo_49 ?_
        refine lv_iconst (v := nI 3) hx hb dX1_letGo_50 (by decide +kernel) ?_
        refine pz_cne (tgt := 61) M (by omega) (by omega) dX1_letGo_51 (by decide) (fun h51 => ?_) (fun h51 => ?_)
        · refine lv_aload_n hx hb dX1_letGo_61 rfl (lv_at hl 1 rfl) ?_
          refine pm_g_fo M C dX1_letGo_62 ?_
          refine lv_iload_n hx hb dX1_letGo_65 rfl (lv_at hl 2 rfl) ?_
          refine lv_iconst (v := nI 0) hx hb dX1_letGo_66 (by decide +kernel) ?_
          refine pm_s_fo M C (by omega) dX1_letGo_67 (fun H locs C => ?_)
          exact ret _ _ _ _ _ C dX1_letGo_68 (by simp [ps_lg, h])
        · exfalso; omega
      · exfalso; omega
  · refine lv_aload_n hx hb dX1_letGo_0 rfl (lv_at hl 0 rfl) ?_
    refine pm_g_wh M C dX1_letGo_1 ?_
    refine lv_iload_n hx hb dX1_letGo_4 rfl (lv_at hl 1 rfl) ?_
    refine pm_l_wh M C (by omega) dX1_letGo_5 ?_
    refine lv_istore_n (lv' := [(2, _), (0, _), (1, _)]) hx hb dX1_letGo_6 rfl hl (by decide) rfl (fun ls hl => ?_)
    refine lv_aload_n hx hb dX1_letGo_7 rfl (lv_at hl 1 rfl) ?_
    refine pm_g_fo M C dX1_letGo_8 ?_
    refine lv_iload_n hx hb dX1_letGo_11 rfl (lv_at hl 2 rfl) ?_
    refine pm_l_fo M C (by omega) dX1_letGo_12 ?_
    refine lv_iconst (v := nI 1) hx hb dX1_letGo_13 (by decide +kernel) ?_
    refine pz_cne (tgt := 27) M (by omega) (by omega) dX1_letGo_14 (by decide) (fun h14 => ?_) (fun h14 => ?_)
    · refine lv_aload_n hx hb dX1_letGo_27 rfl (lv_at hl 1 rfl) ?_
      refine pm_g_fo M C dX1_letGo_28 ?_
      refine lv_iload_n hx hb dX1_letGo_31 rfl (lv_at hl 2 rfl) ?_
      refine pm_l_fo M C (by omega) dX1_letGo_32 ?_
      refine lv_iconst (v := nI 2) hx hb dX1_letGo_33 (by decide +kernel) ?_
      refine pz_cne (tgt := 44) M (by omega) (by omega) dX1_letGo_34 (by decide) (fun h34 => ?_) (fun h34 => ?_)
      · exfalso; omega
      · refine lv_aload_n hx hb dX1_letGo_37 rfl (lv_at hl 1 rfl) ?_
        refine pm_g_ru M C dX1_letGo_38 ?_
        refine lv_iload_n hx hb dX1_letGo_41 rfl (lv_at hl 0 rfl) ?_
        refine lv_iconst (v := pz_b false) hx hb dX1_letGo_42 (by decide +kernel) ?_
        refine pm_s_ru M C (by omega) dX1_letGo_43 (fun H locs C => ?_)
        refine lv_aload_n hx hb dX1_letGo_44 rfl (lv_at hl 1 rfl) ?_
        refine pm_g_fo M C dX1_letGo_45 ?_
        refine lv_iload_n hx hb dX1_letGo_48 rfl (lv_at hl 2 rfl) ?_
        refine pm_l_fo M C (by omega) dX1_letGo_49 ?_
        refine lv_iconst (v := nI 3) hx hb dX1_letGo_50 (by decide +kernel) ?_
        refine pz_cne (tgt := 61) M (by omega) (by omega) dX1_letGo_51 (by decide) (fun h51 => ?_) (fun h51 => ?_)
        · refine lv_aload_n hx hb dX1_letGo_61 rfl (lv_at hl 1 rfl) ?_
          refine pm_g_fo M C dX1_letGo_62 ?_
          refine lv_iload_n hx hb dX1_letGo_65 rfl (lv_at hl 2 rfl) ?_
          refine lv_iconst (v := nI 0) hx hb dX1_letGo_66 (by decide +kernel) ?_
          refine pm_s_fo M C (by omega) dX1_letGo_67 (fun H locs C => ?_)
          exact ret _ _ _ _ _ C dX1_letGo_68 (by simp [ps_lg, h])
        · exfalso; omega
    · exfalso; omega
  · refine lv_aload_n hx hb dX1_letGo_0 rfl (lv_at hl 0 rfl) ?_
    refine pm_g_wh M C dX1_letGo_1 ?_
    refine lv_iload_n hx hb dX1_letGo_4 rfl (lv_at hl 1 rfl) ?_
    refine pm_l_wh M C (by omega) dX1_letGo_5 ?_
    refine lv_istore_n (lv' := [(2, _), (0, _), (1, _)]) hx hb dX1_letGo_6 rfl hl (by decide) rfl (fun ls hl => ?_)
    refine lv_aload_n hx hb dX1_letGo_7 rfl (lv_at hl 1 rfl) ?_
    refine pm_g_fo M C dX1_letGo_8 ?_
    refine lv_iload_n hx hb dX1_letGo_11 rfl (lv_at hl 2 rfl) ?_
    refine pm_l_fo M C (by omega) dX1_letGo_12 ?_
    refine lv_iconst (v := nI 1) hx hb dX1_letGo_13 (by decide +kernel) ?_
    refine pz_cne (tgt := 27) M (by omega) (by omega) dX1_letGo_14 (by decide) (fun h14 => ?_) (fun h14 => ?_)
    · refine lv_aload_n hx hb dX1_letGo_27 rfl (lv_at hl 1 rfl) ?_
      refine pm_g_fo M C dX1_letGo_28 ?_
      refine lv_iload_n hx hb dX1_letGo_31 rfl (lv_at hl 2 rfl) ?_
      refine pm_l_fo M C (by omega) dX1_letGo_32 ?_
      refine lv_iconst (v := nI 2) hx hb dX1_letGo_33 (by decide +kernel) ?_
      refine pz_cne (tgt := 44) M (by omega) (by omega) dX1_letGo_34 (by decide) (fun h34 => ?_) (fun h34 => ?_)
      · refine lv_aload_n hx hb dX1_letGo_44 rfl (lv_at hl 1 rfl) ?_
        refine pm_g_fo M C dX1_letGo_45 ?_
        refine lv_iload_n hx hb dX1_letGo_48 rfl (lv_at hl 2 rfl) ?_
        refine pm_l_fo M C (by omega) dX1_letGo_49 ?_
        refine lv_iconst (v := nI 3) hx hb dX1_letGo_50 (by decide +kernel) ?_
        refine pz_cne (tgt := 61) M (by omega) (by omega) dX1_letGo_51 (by decide) (fun h51 => ?_) (fun h51 => ?_)
        · exfalso; omega
        · refine lv_aload_n hx hb dX1_letGo_54 rfl (lv_at hl 1 rfl) ?_
          refine pm_g_au M C dX1_letGo_55 ?_
          refine lv_iload_n hx hb dX1_letGo_58 rfl (lv_at hl 0 rfl) ?_
          refine lv_iconst (v := pz_b false) hx hb dX1_letGo_59 (by decide +kernel) ?_
          refine pm_s_au M C (by omega) dX1_letGo_60 (fun H locs C => ?_)
          refine lv_aload_n hx hb dX1_letGo_61 rfl (lv_at hl 1 rfl) ?_
          refine pm_g_fo M C dX1_letGo_62 ?_
          refine lv_iload_n hx hb dX1_letGo_65 rfl (lv_at hl 2 rfl) ?_
          refine lv_iconst (v := nI 0) hx hb dX1_letGo_66 (by decide +kernel) ?_
          refine pm_s_fo M C (by omega) dX1_letGo_67 (fun H locs C => ?_)
          exact ret _ _ _ _ _ C dX1_letGo_68 (by simp [ps_lg, h])
      · exfalso; omega
    · exfalso; omega
end
section
/-! PageMerger: runsOf, freeFrame, hashOf, equalFrames, bad, mixed -/
set_option maxRecDepth 100000
theorem pz_isP_of {x : Int32} (h : ¬ x < 0) (h2 : x < 24) : pz_isP x := by
  obtain ⟨j, hj, e⟩ := nI_of h
  subst e
  rw [show (24 : Int32) = nI 24 by decide +kernel] at h2
  exact ⟨j, (nI_ltI hj (by decide)).mp h2, rfl⟩
set_option maxHeartbeats 4000000 in
set_option maxRecDepth 100000 in
/-- runsOf(p): at most two runs of equal words, or 0 -/
theorem mtX1_runsOf {l : Launch} {g : pz_G} {ad : Nat → Nat} {σ : pm_S} {p0 : Nat} (ok : ps_ok σ p0) : pz_Mi l yX1_runsOf cX1_runsOf 7 .int ({ frames := 1, cells := 0, slots := 0, locals := 23 }) (pm_W g ad) g σ [.ref (ad 0), .int (nI p0)] (fun r u => u = σ ∧ ∃ n, r = nI n ∧ pm_runs (ps_w σ p0) n) := by
  obtain ⟨fr, hd, sc, fo, wh, to, ho, me, ru, rl, fv, sv, au, ai⟩ := σ
  have okk : p0 < 24 ∧ fo p0 ≤ 3 ∧ wh p0 < 24 ∧ (fo p0 = 1 → wh p0 < 16) ∧ ∀ r, r < 24 → rl r ≤ 4 := ok
  obtain ⟨o1, o2, o3, o4, o5⟩ := okk
  refine pz_enterI (by decide) (Nat.le_of_ble_eq_true rfl) ?_
  intro p e s m args below meth c A Q M hA ret C ls hl
  have hx := M.1
  have hb := M.2.1
  have hl : lv_has ls 7 [(0, .ref (ad 0)), (1, .int (nI p0))] := hl
  obtain ⟨Wf, hWf⟩ : ∃ z : Nat → Int32, z = ps_w (fr, hd, sc, fo, wh, to, ho, me, ru, rl, fv, sv, au, ai) p0 := ⟨_, rfl⟩
  rw [← hWf] at ret
  have lp2 : ∀ (n : Nat), 1 ≤ n → n ≤ 4 → (∀ v, v < n → Wf v = Wf 0) → (n = 4 ∨ Wf n ≠ Wf 0) → ∀ (k v : Nat), n < v → v ≤ 5 → 6 ≤ v + k → (∀ x, n ≤ x → x < v → x < 4 → Wf x = Wf n) → ∀ (H : Heap) (locs : List Loc), pz_C (pm_W g ad) g A s (fr, hd, sc, fo, wh, to, ho, me, ru, rl, fv, sv, au, ai) H locs → ∀ ls : Array Slot, lv_has ls 7 [(4, .int (nI v)), (2, .int (nI n)), (3, .int (Wf 0)), (0, .ref (ad 0)), (1, .int (nI p0))] → W p l e ({ frames := 1, cells := 0, slots := 0, locals := 23 }) s m args below meth c H locs 0 0 Q (F0 m 35 ls []) := by
    intro n n1 n4 na nb k
    induction k with
    | zero => intro v _ _ h; omega
    | succ k ih =>
      intro v hnv hv5 hk hx1 H locs C ls hl
      refine lv_iload hx hb dX1_runsOf_35 (lv_at hl 0 rfl) ?_
      refine lv_iconst (v := nI 4) hx hb dX1_runsOf_37 (by decide +kernel) ?_
      refine pz_cge (tgt := 73) M (by omega) (by omega) dX1_runsOf_38 (by decide) (fun h38 => ?_) (fun h38 => ?_)
      · refine lv_iload_n hx hb dX1_runsOf_73 rfl (lv_at hl 1 rfl) ?_
        exact ret _ _ _ _ _ _ C dX1_runsOf_74 rfl ⟨rfl, n, rfl, n4, fun _ => ⟨na, fun x a b => hx1 x a (by omega) b⟩, ⟨fun e => by rw [e] at na; exact na, fun h => by
    rcases Nat.lt_or_ge n 4 with q | q
    · rcases nb with e | e
      · exact e
      · exact absurd (h n q) e
    · omega⟩⟩
      · refine lv_aload_n hx hb dX1_runsOf_41 rfl (lv_at hl 3 rfl) ?_
        refine lv_iload_n hx hb dX1_runsOf_42 rfl (lv_at hl 4 rfl) ?_
        refine lv_iload hx hb dX1_runsOf_43 (lv_at hl 0 rfl) ?_
        refine pz_calli M hA C rfl rfl iX1_48 (mtX1_peek ok (by omega)) ⟨Nat.le_of_ble_eq_true rfl, Nat.le_of_ble_eq_true rfl⟩ ⟨rfl, rfl⟩ rfl hl.1 rfl (by decide) dX1_runsOf_45 ⟨Nat.le_of_ble_eq_true rfl, Nat.le_of_ble_eq_true rfl⟩ (fun r u H locs hp C => ?_)
        obtain ⟨rfl, hr⟩ := hp
        rw [← hWf] at hr
        subst hr
        refine lv_istore (lv' := [(5, _), (4, _), (2, _), (3, _), (0, _), (1, _)]) hx hb dX1_runsOf_48 hl (by decide) rfl (fun ls hl => ?_)
        refine lv_aload_n hx hb dX1_runsOf_50 rfl (lv_at hl 4 rfl) ?_
        refine lv_iload_n hx hb dX1_runsOf_51 rfl (lv_at hl 5 rfl) ?_
        refine lv_iload_n hx hb dX1_runsOf_52 rfl (lv_at hl 2 rfl) ?_
        refine pz_calli M hA C rfl rfl iX1_48 (mtX1_peek ok (by omega)) ⟨Nat.le_of_ble_eq_true rfl, Nat.le_of_ble_eq_true rfl⟩ ⟨rfl, rfl⟩ rfl hl.1 rfl (by decide) dX1_runsOf_53 ⟨Nat.le_of_ble_eq_true rfl, Nat.le_of_ble_eq_true rfl⟩ (fun r u H locs hp C => ?_)
        obtain ⟨rfl, hr⟩ := hp
        rw [← hWf] at hr
        subst hr
        refine lv_istore (lv' := [(6, _), (5, _), (4, _), (2, _), (3, _), (0, _), (1, _)]) hx hb dX1_runsOf_56 hl (by decide) rfl (fun ls hl => ?_)
        refine lv_iload hx hb dX1_runsOf_58 (lv_at hl 1 rfl) ?_
        refine lv_iload hx hb dX1_runsOf_60 (lv_at hl 0 rfl) ?_
        refine lv_icmp_eq (tgt := 67) hx hb dX1_runsOf_62 (by decide) (fun h62 => ?_) (fun h62 => ?_)
        · refine pz_iinc1 (k := 2) (lv' := [(4, _), (6, _), (5, _), (2, _), (3, _), (0, _), (1, _)]) M dX1_runsOf_67 hl rfl (by decide) rfl (fun ls hl => ?_)
          refine lv_goto (tgt := 35) hx hb dX1_runsOf_70 (by decide) ?_
          exact ih (v + 1) (by omega) (by omega) (by omega) (fun x a b d => by
    rcases Nat.lt_or_ge x v with q | q
    · exact hx1 x a q d
    · rw [show x = v by omega]; exact h62) _ _ C _ (lv_sub hl [0, 3, 4, 5, 6] rfl)
        · refine lv_iconst (v := nI 0) hx hb dX1_runsOf_65 (by decide +kernel) ?_
          exact ret _ _ _ _ _ _ C dX1_runsOf_66 rfl ⟨rfl, 0, rfl, by omega, fun h => absurd h (by omega), ⟨fun e => absurd e (by omega), fun h => absurd ((h v (by omega)).trans (h n (by omega)).symm) h62⟩⟩
  have lp1 : ∀ (k n : Nat), 1 ≤ n → n ≤ 4 → 5 ≤ n + k → (∀ v, v < n → Wf v = Wf 0) → ∀ (H : Heap) (locs : List Loc), pz_C (pm_W g ad) g A s (fr, hd, sc, fo, wh, to, ho, me, ru, rl, fv, sv, au, ai) H locs → ∀ ls : Array Slot, lv_has ls 7 [(2, .int (nI n)), (3, .int (Wf 0)), (0, .ref (ad 0)), (1, .int (nI p0))] → W p l e ({ frames := 1, cells := 0, slots := 0, locals := 23 }) s m args below meth c H locs 0 0 Q (F0 m 9 ls []) := by
    intro k
    induction k with
    | zero => intro n _ _ h; omega
    | succ k ih =>
      intro n n1 n4 hk na H locs C ls hl
      refine lv_iload_n hx hb dX1_runsOf_9 rfl (lv_at hl 0 rfl) ?_
      refine lv_iconst (v := nI 4) hx hb dX1_runsOf_10 (by decide +kernel) ?_
      refine pz_cge (tgt := 30) M (by omega) (by omega) dX1_runsOf_11 (by decide) (fun h11 => ?_) (fun h11 => ?_)
      · refine lv_iload_n hx hb dX1_runsOf_30 rfl (lv_at hl 0 rfl) ?_
        refine lv_iconst (v := nI 1) hx hb dX1_runsOf_31 (by decide +kernel) ?_
        refine pz_iaddN M dX1_runsOf_32 ?_
        refine lv_istore (lv' := [(4, _), (2, _), (3, _), (0, _), (1, _)]) hx hb dX1_runsOf_33 hl (by decide) rfl (fun ls hl => ?_)
        exact lp2 n n1 n4 na (Or.inl (by omega)) 5 (n + 1) (by omega) (by omega) (by omega) (fun x a b _ => by rw [show x = n by omega]) _ _ C _ (lv_sub hl [0, 1, 2, 3, 4] rfl)
      · refine lv_aload_n hx hb dX1_runsOf_14 rfl (lv_at hl 2 rfl) ?_
        refine lv_iload_n hx hb dX1_runsOf_15 rfl (lv_at hl 3 rfl) ?_
        refine lv_iload_n hx hb dX1_runsOf_16 rfl (lv_at hl 0 rfl) ?_
        refine pz_calli M hA C rfl rfl iX1_48 (mtX1_peek ok (by omega)) ⟨Nat.le_of_ble_eq_true rfl, Nat.le_of_ble_eq_true rfl⟩ ⟨rfl, rfl⟩ rfl hl.1 rfl (by decide) dX1_runsOf_17 ⟨Nat.le_of_ble_eq_true rfl, Nat.le_of_ble_eq_true rfl⟩ (fun r u H locs hp C => ?_)
        obtain ⟨rfl, hr⟩ := hp
        rw [← hWf] at hr
        subst hr
        refine lv_iload_n hx hb dX1_runsOf_20 rfl (lv_at hl 1 rfl) ?_
        refine lv_icmp_ne (tgt := 30) hx hb dX1_runsOf_21 (by decide) (fun h21 => ?_) (fun h21 => ?_)
        · refine lv_iload_n hx hb dX1_runsOf_30 rfl (lv_at hl 0 rfl) ?_
          refine lv_iconst (v := nI 1) hx hb dX1_runsOf_31 (by decide +kernel) ?_
          refine pz_iaddN M dX1_runsOf_32 ?_
          refine lv_istore (lv' := [(4, _), (2, _), (3, _), (0, _), (1, _)]) hx hb dX1_runsOf_33 hl (by decide) rfl (fun ls hl => ?_)
          exact lp2 n n1 n4 na (Or.inr h21) 5 (n + 1) (by omega) (by omega) (by omega) (fun x a b _ => by rw [show x = n by omega]) _ _ C _ (lv_sub hl [0, 1, 2, 3, 4] rfl)
        · refine pz_iinc1 (k := 0) (lv' := [(2, _), (3, _), (0, _), (1, _)]) M dX1_runsOf_24 hl rfl (by decide) rfl (fun ls hl => ?_)
          refine lv_goto (tgt := 9) hx hb dX1_runsOf_27 (by decide) ?_
          exact ih (n + 1) (by omega) (by omega) (by omega) (fun x a => by
    rcases Nat.lt_or_ge x n with q | q
    · exact na x q
    · rw [show x = n by omega]; exact h21) _ _ C _ (lv_sub hl [0, 1, 2, 3] rfl)
  refine lv_iconst (v := nI 1) hx hb dX1_runsOf_0 (by decide +kernel) ?_
  refine lv_istore_n (lv' := [(2, _), (0, _), (1, _)]) hx hb dX1_runsOf_1 rfl hl (by decide) rfl (fun ls hl => ?_)
  refine lv_aload_n hx hb dX1_runsOf_2 rfl (lv_at hl 1 rfl) ?_
  refine lv_iload_n hx hb dX1_runsOf_3 rfl (lv_at hl 2 rfl) ?_
  refine lv_iconst (v := nI 0) hx hb dX1_runsOf_4 (by decide +kernel) ?_
  refine pz_calli M hA C rfl rfl iX1_48 (mtX1_peek ok (by decide)) ⟨Nat.le_of_ble_eq_true rfl, Nat.le_of_ble_eq_true rfl⟩ ⟨rfl, rfl⟩ rfl hl.1 rfl (by decide) dX1_runsOf_5 ⟨Nat.le_of_ble_eq_true rfl, Nat.le_of_ble_eq_true rfl⟩ (fun r u H locs hp C => ?_)
  obtain ⟨rfl, hr⟩ := hp
  rw [← hWf] at hr
  subst hr
  refine lv_istore_n (lv' := [(3, _), (2, _), (0, _), (1, _)]) hx hb dX1_runsOf_8 rfl hl (by decide) rfl (fun ls hl => ?_)
  exact lp1 5 1 (by omega) (by omega) (by omega) (fun x a => by rw [show x = 0 by omega]) _ _ C _ (lv_sub hl [1, 0, 2, 3] rfl)
set_option maxHeartbeats 4000000 in
set_option maxRecDepth 100000 in
/-- freeFrame(): the first frame that nobody holds, or -1 -/
theorem mtX1_freeFrame {l : Launch} {g : pz_G} {ad : Nat → Nat} {σ : pm_S}  (h16 : ps_fr σ ≤ 16) (hho : ∀ f, f < 16 → ps_ho σ f ≤ 24) : pz_Mi l yX1_freeFrame cX1_freeFrame 2 .int ({ frames := 0, cells := 0, slots := 0, locals := 0 }) (pm_W g ad) g σ [.ref (ad 0)] (fun r u => u = σ ∧ ((∃ f, f < ps_fr σ ∧ r = nI f ∧ ps_ho σ f = 0) ∨ (r = (-1) ∧ ∀ f, f < ps_fr σ → ps_ho σ f ≠ 0))) := by
  obtain ⟨fr, hd, sc, fo, wh, to, ho, me, ru, rl, fv, sv, au, ai⟩ := σ
  have h16 : fr ≤ 16 := h16
  have hho : ∀ f, f < 16 → ho f ≤ 24 := hho
  refine pz_enterI (by decide) (Nat.le_of_ble_eq_true rfl) ?_
  intro p e s m args below meth c A Q M hA ret C ls hl
  have hx := M.1
  have hb := M.2.1
  have hl : lv_has ls 2 [(0, .ref (ad 0))] := hl
  have lp : ∀ (k i : Nat), i ≤ fr → fr + 1 ≤ i + k → (∀ f, f < i → ho f ≠ 0) → ∀ (H : Heap) (locs : List Loc), pz_C (pm_W g ad) g A s (fr, hd, sc, fo, wh, to, ho, me, ru, rl, fv, sv, au, ai) H locs → ∀ ls : Array Slot, lv_has ls 2 [(1, .int (nI i)), (0, .ref (ad 0))] → W p l e ({ frames := 0, cells := 0, slots := 0, locals := 0 }) s m args below meth c H locs 0 0 Q (F0 m 2 ls []) := by
    intro k
    induction k with
    | zero => intro i _ h; omega
    | succ k ih =>
      intro i hi hk na H locs C ls hl
      refine lv_iload_n hx hb dX1_freeFrame_2 rfl (lv_at hl 0 rfl) ?_
      refine lv_aload_n hx hb dX1_freeFrame_3 rfl (lv_at hl 1 rfl) ?_
      refine pm_g_fr M C dX1_freeFrame_4 ?_
      refine pz_cge (tgt := 27) M (by omega) (by omega) dX1_freeFrame_7 (by decide) (fun h7 => ?_) (fun h7 => ?_)
      · refine lv_iconst (v := (-1)) hx hb dX1_freeFrame_27 (by decide +kernel) ?_
        exact ret _ _ _ _ _ _ C dX1_freeFrame_28 rfl ⟨rfl, Or.inr ⟨rfl, fun f hf => na f (Nat.lt_of_lt_of_le hf h7)⟩⟩
      · have hoi := hho i (by omega)
        refine lv_aload_n hx hb dX1_freeFrame_10 rfl (lv_at hl 1 rfl) ?_
        refine pm_g_ho M C dX1_freeFrame_11 ?_
        refine lv_iload_n hx hb dX1_freeFrame_14 rfl (lv_at hl 0 rfl) ?_
        refine pm_l_ho M C (by omega) dX1_freeFrame_15 ?_
        refine pz_zne (tgt := 21) M (by omega) dX1_freeFrame_16 (by decide) (fun h16_ => ?_) (fun h16_ => ?_)
        · refine pz_iinc1 (k := 0) (lv' := [(1, _), (0, _)]) M dX1_freeFrame_21 hl rfl (by decide) rfl (fun ls hl => ?_)
          refine lv_goto (tgt := 2) hx hb dX1_freeFrame_24 (by decide) ?_
          exact ih (i + 1) (by omega) (by omega) (fun x a => by
    rcases Nat.lt_or_ge x i with q | q
    · exact na x q
    · rw [show x = i by omega]; exact h16_) _ _ C _ (lv_sub hl [0, 1] rfl)
        · refine lv_iload_n hx hb dX1_freeFrame_19 rfl (lv_at hl 0 rfl) ?_
          exact ret _ _ _ _ _ _ C dX1_freeFrame_20 rfl ⟨rfl, Or.inl ⟨i, h7, rfl, h16_⟩⟩
  refine lv_iconst (v := nI 0) hx hb dX1_freeFrame_0 (by decide +kernel) ?_
  refine lv_istore_n (lv' := [(1, _), (0, _)]) hx hb dX1_freeFrame_1 rfl hl (by decide) rfl (fun ls hl => ?_)
  exact lp (fr + 1) 0 (by omega) (by omega) (fun f h => absurd h (by omega)) _ _ C _ (lv_sub hl [0, 1] rfl)
set_option maxHeartbeats 4000000 in
set_option maxRecDepth 100000 in
/-- mixed(a, b): some number -/
theorem mtX1_mixed {l : Launch} {a0 b0 : Int32}  : pz_Si l yX1_mixed cX1_mixed 2 .int ({ frames := 0, cells := 0, slots := 0, locals := 0 }) [.int a0, .int b0] (fun _ => True) := by
  refine pz_enterS (by decide) (Nat.le_of_ble_eq_true rfl) ?_
  intro p e s m args below meth c Q M ret ls hl
  have hx := M.1
  have hb := M.2.1
  have hl : lv_has ls 2 [(0, .int a0), (1, .int b0)] := hl
  refine lv_iload_n hx hb dX1_mixed_0 rfl (lv_at hl 0 rfl) ?_
  refine lv_iload_n hx hb dX1_mixed_1 rfl (lv_at hl 1 rfl) ?_
  refine lv_ixor hx hb dX1_mixed_2 ?_
  refine lv_ldc hx hb M.2.2.2.1 (M.2.2.2.2 _ q151) dX1_mixed_3 ?_
  refine lv_imul hx hb dX1_mixed_5 ?_
  exact ret _ _ _ dX1_mixed_6 rfl trivial
set_option maxHeartbeats 4000000 in
set_option maxRecDepth 100000 in
/-- bad(p): 0 if p is a page, else 1 -/
theorem mtX1_bad {l : Launch} {x0 : Int32}  : pz_Si l yX1_bad cX1_bad 1 .boolean ({ frames := 0, cells := 0, slots := 0, locals := 0 }) [.int x0] (fun r => (pz_isP x0 ∧ r = 0) ∨ (¬ pz_isP x0 ∧ r = 1)) := by
  refine pz_enterS (by decide) (Nat.le_of_ble_eq_true rfl) ?_
  intro p e s m args below meth c Q M ret ls hl
  have hx := M.1
  have hb := M.2.1
  have hl : lv_has ls 1 [(0, .int x0)] := hl
  refine lv_iload_n hx hb dX1_bad_0 rfl (lv_at hl 0 rfl) ?_
  refine lv_if_lt (tgt := 10) hx hb dX1_bad_1 (by decide) (fun h1 => ?_) (fun h1 => ?_)
  · refine lv_iconst (v := 1) hx hb dX1_bad_10 (by decide +kernel) ?_
    refine lv_goto (tgt := 15) hx hb dX1_bad_11 (by decide) ?_
    exact ret _ _ _ dX1_bad_15 rfl (Or.inr ⟨fun ⟨k, hk, e⟩ => by rw [e] at h1; exact nI_pos (by omega) h1, rfl⟩)
  · refine lv_iload_n hx hb dX1_bad_4 rfl (lv_at hl 0 rfl) ?_
    refine lv_bipush (v := 24) hx hb dX1_bad_5 (by decide +kernel) ?_
    refine lv_icmp_lt (tgt := 14) hx hb dX1_bad_7 (by decide) (fun h7 => ?_) (fun h7 => ?_)
    · refine lv_iconst (v := 0) hx hb dX1_bad_14 (by decide +kernel) ?_
      exact ret _ _ _ dX1_bad_15 rfl (Or.inl ⟨pz_isP_of h1 h7, rfl⟩)
    · refine lv_iconst (v := 1) hx hb dX1_bad_10 (by decide +kernel) ?_
      refine lv_goto (tgt := 15) hx hb dX1_bad_11 (by decide) ?_
      exact ret _ _ _ dX1_bad_15 rfl (Or.inr ⟨fun ⟨k, hk, e⟩ => h7 (by rw [e, show (24 : Int32) = nI 24 by decide +kernel]; exact nI_lt hk (by decide)), rfl⟩)
set_option maxHeartbeats 4000000 in
set_option maxRecDepth 100000 in
/-- hashOf(f): some number, nothing changes -/
theorem mtX1_hashOf {l : Launch} {g : pz_G} {ad : Nat → Nat} {σ : pm_S} {f0 : Nat} (hf : f0 < 16) : pz_Mi l yX1_hashOf cX1_hashOf 4 .int ({ frames := 1, cells := 0, slots := 0, locals := 21 }) (pm_W g ad) g σ [.ref (ad 0), .int (nI f0)] (fun _ u => u = σ) := by
  obtain ⟨fr, hd, sc, fo, wh, to, ho, me, ru, rl, fv, sv, au, ai⟩ := σ
  refine pz_enterI (by decide) (Nat.le_of_ble_eq_true rfl) ?_
  intro p e s m args below meth c A Q M hA ret C ls hl
  have hx := M.1
  have hb := M.2.1
  have hl : lv_has ls 4 [(0, .ref (ad 0)), (1, .int (nI f0))] := hl
  have lp : ∀ (k i : Nat) (x2 : Int32), i ≤ 4 → 5 ≤ i + k → ∀ (H : Heap) (locs : List Loc), pz_C (pm_W g ad) g A s (fr, hd, sc, fo, wh, to, ho, me, ru, rl, fv, sv, au, ai) H locs → ∀ ls : Array Slot, lv_has ls 4 [(3, .int (nI i)), (2, .int x2), (0, .ref (ad 0)), (1, .int (nI f0))] → W p l e ({ frames := 1, cells := 0, slots := 0, locals := 21 }) s m args below meth c H locs 0 0 Q (F0 m 5 ls []) := by
    intro k
    induction k with
    | zero => intro i x2 _ h; omega
    | succ k ih =>
      intro i x2 hi hk H locs C ls hl
      refine lv_iload_n hx hb dX1_hashOf_5 rfl (lv_at hl 0 rfl) ?_
      refine lv_iconst (v := nI 4) hx hb dX1_hashOf_6 (by decide +kernel) ?_
      refine pz_cge (tgt := 31) M (by omega) (by omega) dX1_hashOf_7 (by decide) (fun h7 => ?_) (fun h7 => ?_)
      · refine lv_iload_n hx hb dX1_hashOf_31 rfl (lv_at hl 1 rfl) ?_
        exact ret _ _ _ _ _ _ C dX1_hashOf_32 rfl rfl
      · refine lv_iload_n hx hb dX1_hashOf_10 rfl (lv_at hl 1 rfl) ?_
        refine lv_aload_n hx hb dX1_hashOf_11 rfl (lv_at hl 2 rfl) ?_
        refine pm_g_me M C dX1_hashOf_12 ?_
        refine lv_iload_n hx hb dX1_hashOf_15 rfl (lv_at hl 3 rfl) ?_
        refine lv_iconst (v := nI 4) hx hb dX1_hashOf_16 (by decide +kernel) ?_
        refine pz_imulN M dX1_hashOf_17 ?_
        refine lv_iload_n hx hb dX1_hashOf_18 rfl (lv_at hl 0 rfl) ?_
        refine pz_iaddN M dX1_hashOf_19 ?_
        refine pm_l_me M C (by omega) dX1_hashOf_20 ?_
        refine pz_calls M C iX1_91 mtX1_mixed ⟨Nat.le_of_ble_eq_true rfl, Nat.le_of_ble_eq_true rfl⟩ ⟨rfl, rfl⟩ rfl hl.1 rfl (by decide) dX1_hashOf_21 ⟨Nat.le_of_ble_eq_true rfl, Nat.le_of_ble_eq_true rfl⟩ (fun r H locs hp C => ?_)
        refine lv_istore_n (lv' := [(2, _), (3, _), (0, _), (1, _)]) hx hb dX1_hashOf_24 rfl hl (by decide) rfl (fun ls hl => ?_)
        refine pz_iinc1 (k := 1) (lv' := [(3, _), (2, _), (0, _), (1, _)]) M dX1_hashOf_25 hl rfl (by decide) rfl (fun ls hl => ?_)
        refine lv_goto (tgt := 5) hx hb dX1_hashOf_28 (by decide) ?_
        exact ih (i + 1) _ (by omega) (by omega) _ _ C _ (lv_sub hl [0, 1, 2, 3] rfl)
  refine lv_bipush (v := 7) hx hb dX1_hashOf_0 (by decide +kernel) ?_
  refine lv_istore_n (lv' := [(2, _), (0, _), (1, _)]) hx hb dX1_hashOf_2 rfl hl (by decide) rfl (fun ls hl => ?_)
  refine lv_iconst (v := nI 0) hx hb dX1_hashOf_3 (by decide +kernel) ?_
  refine lv_istore_n (lv' := [(3, _), (2, _), (0, _), (1, _)]) hx hb dX1_hashOf_4 rfl hl (by decide) rfl (fun ls hl => ?_)
  exact lp 5 0 _ (by omega) (by omega) _ _ C _ (lv_sub hl [0, 1, 2, 3] rfl)
set_option maxHeartbeats 4000000 in
set_option maxRecDepth 100000 in
/-- equalFrames(f, g): 1 only if the words are the same -/
theorem mtX1_equalFrames {l : Launch} {g : pz_G} {ad : Nat → Nat} {σ : pm_S} {f0 g0 : Nat} (hf : f0 < 16) (hg : g0 < 16) : pz_Mi l yX1_equalFrames cX1_equalFrames 4 .boolean ({ frames := 0, cells := 0, slots := 0, locals := 0 }) (pm_W g ad) g σ [.ref (ad 0), .int (nI f0), .int (nI g0)] (fun r u => u = σ ∧ ((r = 0) ∨ (r = 1 ∧ ∀ w, w < 4 → ps_me σ (f0 * 4 + w) = ps_me σ (g0 * 4 + w)))) := by
  obtain ⟨fr, hd, sc, fo, wh, to, ho, me, ru, rl, fv, sv, au, ai⟩ := σ
  refine pz_enterI (by decide) (Nat.le_of_ble_eq_true rfl) ?_
  intro p e s m args below meth c A Q M hA ret C ls hl
  have hx := M.1
  have hb := M.2.1
  have hl : lv_has ls 4 [(0, .ref (ad 0)), (1, .int (nI f0)), (2, .int (nI g0))] := hl
  have lp : ∀ (k i : Nat), i ≤ 4 → 5 ≤ i + k → (∀ x, x < i → me (f0 * 4 + x) = me (g0 * 4 + x)) → ∀ (H : Heap) (locs : List Loc), pz_C (pm_W g ad) g A s (fr, hd, sc, fo, wh, to, ho, me, ru, rl, fv, sv, au, ai) H locs → ∀ ls : Array Slot, lv_has ls 4 [(3, .int (nI i)), (0, .ref (ad 0)), (1, .int (nI f0)), (2, .int (nI g0))] → W p l e ({ frames := 0, cells := 0, slots := 0, locals := 0 }) s m args below meth c H locs 0 0 Q (F0 m 2 ls []) := by
    intro k
    induction k with
    | zero => intro i _ h; omega
    | succ k ih =>
      intro i hi hk na H locs C ls hl
      refine lv_iload_n hx hb dX1_equalFrames_2 rfl (lv_at hl 0 rfl) ?_
      refine lv_iconst (v := nI 4) hx hb dX1_equalFrames_3 (by decide +kernel) ?_
      refine pz_cge (tgt := 38) M (by omega) (by omega) dX1_equalFrames_4 (by decide) (fun h4 => ?_) (fun h4 => ?_)
      · refine lv_iconst (v := 1) hx hb dX1_equalFrames_38 (by decide +kernel) ?_
        exact ret _ _ _ _ _ _ C dX1_equalFrames_39 rfl ⟨rfl, Or.inr ⟨rfl, fun x a => na x (by omega)⟩⟩
      · refine lv_aload_n hx hb dX1_equalFrames_7 rfl (lv_at hl 1 rfl) ?_
        refine pm_g_me M C dX1_equalFrames_8 ?_
        refine lv_iload_n hx hb dX1_equalFrames_11 rfl (lv_at hl 2 rfl) ?_
        refine lv_iconst (v := nI 4) hx hb dX1_equalFrames_12 (by decide +kernel) ?_
        refine pz_imulN M dX1_equalFrames_13 ?_
        refine lv_iload_n hx hb dX1_equalFrames_14 rfl (lv_at hl 0 rfl) ?_
        refine pz_iaddN M dX1_equalFrames_15 ?_
        refine pm_l_me M C (by omega) dX1_equalFrames_16 ?_
        refine lv_aload_n hx hb dX1_equalFrames_17 rfl (lv_at hl 1 rfl) ?_
        refine pm_g_me M C dX1_equalFrames_18 ?_
        refine lv_iload_n hx hb dX1_equalFrames_21 rfl (lv_at hl 3 rfl) ?_
        refine lv_iconst (v := nI 4) hx hb dX1_equalFrames_22 (by decide +kernel) ?_
        refine pz_imulN M dX1_equalFrames_23 ?_
        refine lv_iload_n hx hb dX1_equalFrames_24 rfl (lv_at hl 0 rfl) ?_
        refine pz_iaddN M dX1_equalFrames_25 ?_
        refine pm_l_me M C (by omega) dX1_equalFrames_26 ?_
        refine lv_icmp_eq (tgt := 32) hx hb dX1_equalFrames_27 (by decide) (fun h27 => ?_) (fun h27 => ?_)
        · refine pz_iinc1 (k := 0) (lv' := [(3, _), (0, _), (1, _), (2, _)]) M dX1_equalFrames_32 hl rfl (by decide) rfl (fun ls hl => ?_)
          refine lv_goto (tgt := 2) hx hb dX1_equalFrames_35 (by decide) ?_
          exact ih (i + 1) (by omega) (by omega) (fun x a => by
    rcases Nat.lt_or_ge x i with q | q
    · exact na x q
    · rw [show x = i by omega]; exact h27) _ _ C _ (lv_sub hl [0, 1, 2, 3] rfl)
        · refine lv_iconst (v := 0) hx hb dX1_equalFrames_30 (by decide +kernel) ?_
          exact ret _ _ _ _ _ _ C dX1_equalFrames_31 rfl ⟨rfl, Or.inl rfl⟩
  refine lv_iconst (v := nI 0) hx hb dX1_equalFrames_0 (by decide +kernel) ?_
  refine lv_istore_n (lv' := [(3, _), (0, _), (1, _), (2, _)]) hx hb dX1_equalFrames_1 rfl hl (by decide) rfl (fun ls hl => ?_)
  exact lp 5 0 (by omega) (by omega) (fun x h => absurd h (by omega)) _ _ C _ (lv_sub hl [0, 1, 2, 3] rfl)
end
section
/-! plain laws: a page leaves its frame -/
theorem ps_w1 {σ : pm_S} {p w : Nat} (h : ps_fo σ p = 1) : ps_w σ p w = ps_me σ (ps_wh σ p * 4 + w) := if_pos h
theorem pm_fr_of {u : Nat → Bool} {r : Nat} (h : ∃ r', r' < 24 ∧ u r' = false) (h23 : r ≤ 23) (ha : ∀ j, j < r → u j = true) (hb : r = 23 ∨ u r = false) : u r = false := by
  rcases hb with e | e
  · obtain ⟨r', h1, h2⟩ := h
    rcases Nat.lt_or_ge r' r with q | q
    · rw [ha r' q] at h2; cases h2
    · rw [show r = r' by omega]; exact h2
  · exact e
theorem up_le {f : Nat → Nat} {k v b n : Nat} (h : ∀ r, r < n → f r ≤ b) (hv : v ≤ b) : ∀ r, r < n → va_up f k v r ≤ b := by
  intro r hr
  by_cases e : r = k
  · rw [e, va_up_self]; exact hv
  · rw [va_up_ne _ _ e]; exact h r hr
theorem ch_1 (fo wh : Nat → Nat) (p k r : Nat) : pm_ch fo wh (va_up (va_up fo p 0) p k) (va_up wh p r) p k r :=
  ⟨fun q _ hq => ⟨by simp [va_up, hq], by simp [va_up, hq]⟩, by simp [va_up], by simp [va_up]⟩
theorem rg_1 {fr p k r : Nat} {fo wh fo' wh' : Nat → Nat} (h : ∀ p, p < 24 → fo p ≤ 3 ∧ wh p < 24 ∧ (fo p = 1 → wh p < fr)) (ch : pm_ch fo wh fo' wh' p k r) (hk : k ≤ 3) (hr : r < 24) (hf : k = 1 → r < fr) : ∀ p, p < 24 → fo' p ≤ 3 ∧ wh' p < 24 ∧ (fo' p = 1 → wh' p < fr) := by
  intro q hq
  by_cases e : q = p
  · rw [e, ch.2.1, ch.2.2]
    exact ⟨hk, hr, hf⟩
  · obtain ⟨a, b⟩ := ch.1 q hq e
    rw [a, b]
    exact h q hq
theorem pm_sq {fr hd sc : Nat} {fo wh : Nat → Nat} {to : Nat → Bool} {ho : Nat → Nat} {me : Nat → Int32} {ru : Nat → Bool} {rl : Nat → Nat} {fv sv : Nat → Int32} {au : Nat → Bool} {ai : Nat → Int32} {p r n : Nat} {x y : Int32}
    (I : pm_I fr hd sc fo wh ho rl ru au) (hp : p < 24) (h1 : fo p = 1) (hr : r < 24) (hu : ru r = false) (hn4 : n ≤ 4) (ha : ∀ w, w < n → me (wh p * 4 + w) = x) (hb : ∀ w, n ≤ w → w < 4 → me (wh p * 4 + w) = y) :
    ps_Ev (fr, hd, sc, fo, wh, to, ho, me, ru, rl, fv, sv, au, ai) p (fr, hd, sc, va_up (va_up fo p 0) p 2, va_up wh p r, to, va_up ho (wh p) (ho (wh p) - 1), me, va_up ru r true, va_up rl r n, va_up fv r x, va_up sv r y, au, ai) := by
  have ch := ch_1 fo wh p 2 r
  obtain ⟨i1, i2, i3, i4, i5, i6⟩ := I
  refine ⟨⟨i1, rg_1 i2 ch (by decide) hr (fun e => absurd e (by decide)), ho_leave i3 hp h1 ch (by decide), up_le i4 hn4, us_join i5 hp (by omega) ch hu, us_stay i6 (by omega) ch (by decide)⟩, ?_, ?_, ?_, rfl, rfl, rfl, rfl⟩
  · intro q hq
    by_cases e : q = p
    · subst e
      refine ⟨?_, fun w hw => ?_⟩
      · show va_up (va_up fo q 0) q 2 q = 0 ↔ fo q = 0
        rw [va_up_self, h1]
        decide
      · show pm_word (va_up (va_up fo q 0) q 2) (va_up wh q r) (va_up rl r n) me (va_up fv r x) (va_up sv r y) ai q w = pm_word fo wh rl me fv sv ai q w
        rw [show pm_word fo wh rl me fv sv ai q w = me (wh q * 4 + w) from if_pos h1]
        unfold pm_word
        simp only [va_up_self]
        rw [if_neg (by decide), if_pos trivial]
        by_cases hw2 : w < n
        · rw [if_pos hw2, ha w hw2]
        · rw [if_neg hw2, hb w (by omega) hw]
    · obtain ⟨a, b⟩ := ch.1 q hq e
      refine ⟨?_, fun w hw => word_eq a b (fun _ => rfl) (fun h2 => ?_) (fun _ => rfl)⟩
      · show va_up (va_up fo p 0) p 2 q = 0 ↔ fo q = 0
        rw [a]
      · have hne : wh q ≠ r := by
          intro e2
          have := i5.2.1 q hq h2
          rw [e2, hu] at this
          cases this
        exact ⟨va_up_ne _ _ hne, va_up_ne _ _ hne, va_up_ne _ _ hne⟩
  · show va_up (va_up fo p 0) p 2 p ≠ 1
    rw [va_up_self]
    decide
  · exact fun q hq e => ch.1 q hq e
theorem pm_pa {fr hd sc : Nat} {fo wh : Nat → Nat} {to : Nat → Bool} {ho : Nat → Nat} {me : Nat → Int32} {ru : Nat → Bool} {rl : Nat → Nat} {fv sv : Nat → Int32} {au : Nat → Bool} {ai ai' : Nat → Int32} {p r : Nat}
    (I : pm_I fr hd sc fo wh ho rl ru au) (hp : p < 24) (h1 : fo p = 1) (hr : r < 24) (hu : au r = false) (ha : ∀ w, w < 4 → ai' (r * 4 + w) = me (wh p * 4 + w)) (hb : ∀ k, k < r * 4 ∨ r * 4 + 4 ≤ k → ai' k = ai k) :
    ps_Ev (fr, hd, sc, fo, wh, to, ho, me, ru, rl, fv, sv, au, ai) p (fr, hd, sc, va_up (va_up fo p 0) p 3, va_up wh p r, to, va_up ho (wh p) (ho (wh p) - 1), me, ru, rl, fv, sv, va_up au r true, ai') := by
  have ch := ch_1 fo wh p 3 r
  obtain ⟨i1, i2, i3, i4, i5, i6⟩ := I
  refine ⟨⟨i1, rg_1 i2 ch (by decide) hr (fun e => absurd e (by decide)), ho_leave i3 hp h1 ch (by decide), i4, us_stay i5 (by omega) ch (by decide), us_join i6 hp (by omega) ch hu⟩, ?_, ?_, ?_, rfl, rfl, rfl, rfl⟩
  · intro q hq
    by_cases e : q = p
    · subst e
      refine ⟨?_, fun w hw => ?_⟩
      · show va_up (va_up fo q 0) q 3 q = 0 ↔ fo q = 0
        rw [va_up_self, h1]
        decide
      · show pm_word (va_up (va_up fo q 0) q 3) (va_up wh q r) rl me fv sv ai' q w = pm_word fo wh rl me fv sv ai q w
        rw [show pm_word fo wh rl me fv sv ai q w = me (wh q * 4 + w) from if_pos h1]
        unfold pm_word
        simp only [va_up_self]
        rw [if_neg (by decide), if_neg (by decide), if_pos trivial]
        exact ha w hw
    · obtain ⟨a, b⟩ := ch.1 q hq e
      refine ⟨?_, fun w hw => word_eq a b (fun _ => rfl) (fun _ => ⟨rfl, rfl, rfl⟩) (fun h3 => ?_)⟩
      · show va_up (va_up fo p 0) p 3 q = 0 ↔ fo q = 0
        rw [a]
      · have hne : wh q ≠ r := by
          intro e2
          have := i6.2.1 q hq h3
          rw [e2, hu] at this
          cases this
        exact hb (wh q * 4 + w) (by omega)
  · show va_up (va_up fo p 0) p 3 p ≠ 1
    rw [va_up_self]
    decide
  · exact fun q hq e => ch.1 q hq e
theorem ps_lg1 {fr hd sc : Nat} {fo wh : Nat → Nat} {to : Nat → Bool} {ho : Nat → Nat} {me : Nat → Int32} {ru : Nat → Bool} {rl : Nat → Nat} {fv sv : Nat → Int32} {au : Nat → Bool} {ai : Nat → Int32} {p : Nat} (h : fo p = 1) : ps_lg (fr, hd, sc, fo, wh, to, ho, me, ru, rl, fv, sv, au, ai) p = (fr, hd, sc, va_up fo p 0, wh, to, va_up ho (wh p) (ho (wh p) - 1), me, ru, rl, fv, sv, au, ai) := if_pos h
theorem ps_ho1 {fr hd sc : Nat} {fo wh ho rl : Nat → Nat} {ru au : Nat → Bool} {p : Nat} (I : pm_I fr hd sc fo wh ho rl ru au) (hp : p < 24) (h : fo p = 1) : 1 ≤ ho (wh p) ∧ wh p < fr ∧ wh p < 16 := by
  obtain ⟨i1, i2, i3, -⟩ := I
  have a := (i2 p hp).2.2 h
  rw [i3 (wh p) (by omega)]
  exact ⟨cn_pos 24 hp h rfl, a, by omega⟩
theorem ho_le {fr hd sc : Nat} {fo wh ho rl : Nat → Nat} {ru au : Nat → Bool} (I : pm_I fr hd sc fo wh ho rl ru au) : ∀ f, f < 16 → ho f ≤ 24 := by
  intro f hf
  rw [I.2.2.1 f hf]
  exact cn_le fo wh f 24
theorem up4_lt {f : Nat → Int32} {b i w : Nat} {x : Int32} {g : Nat → Int32} (h : ∀ v, v < w → f (b * 4 + v) = g v) (hx : x = g w) (hi : i = b * 4 + w) : ∀ v, v < w + 1 → va_up f i x (b * 4 + v) = g v := by
  intro v hv
  by_cases e : v = w
  · rw [e, hi, va_up_self]; exact hx
  · rw [va_up_ne _ _ (by omega)]; exact h v (by omega)
theorem up4_out {f f0 : Nat → Int32} {b i w : Nat} {x : Int32} (h : ∀ k, k < b * 4 ∨ b * 4 + 4 ≤ k → f k = f0 k) (hw : w < 4) (hi : i = b * 4 + w) : ∀ k, k < b * 4 ∨ b * 4 + 4 ≤ k → va_up f i x k = f0 k := by
  intro k hk
  rw [va_up_ne _ _ (by omega)]
  exact h k hk
end
section
/-! PageMerger: squeeze, putAside, evict -/
set_option maxRecDepth 100000
set_option maxHeartbeats 4000000 in
set_option maxRecDepth 100000 in
/-- squeeze(p, run): the page leaves its frame for a record -/
theorem mtX1_squeeze {l : Launch} {g : pz_G} {ad : Nat → Nat} {σ : pm_S} {p0 n0 : Nat} (I : ps_I σ) (hp0 : p0 < 24) (h1 : ps_fo σ p0 = 1) (hn : 0 < n0) (hR : pm_runs (ps_w σ p0) n0) : pz_Mv l yX1_squeeze cX1_squeeze 4 ({ frames := 1, cells := 0, slots := 0, locals := 23 }) (pm_W g ad) g σ [.ref (ad 0), .int (nI p0), .int (nI n0)] (fun u => ps_Ev σ p0 u) := by
  obtain ⟨fr, hd, sc, fo, wh, to, ho, me, ru, rl, fv, sv, au, ai⟩ := σ
  have I0 : pm_I fr hd sc fo wh ho rl ru au := I
  have h1 : fo p0 = 1 := h1
  have i2 := I0.2.1 p0 hp0
  have i4 := I0.2.2.2.1
  obtain ⟨g1, g2, g3⟩ := ps_ho1 I0 hp0 h1
  have hw1 : ∀ w, ps_w (fr, hd, sc, fo, wh, to, ho, me, ru, rl, fv, sv, au, ai) p0 w = me (wh p0 * 4 + w) := fun w => ps_w1 h1
  obtain ⟨n4, hR2, -⟩ := hR
  obtain ⟨ha, hb2⟩ := hR2 hn
  have ha : ∀ w, w < n0 → me (wh p0 * 4 + w) = me (wh p0 * 4 + 0) := fun w h => by rw [← hw1, ← hw1]; exact ha w h
  have hb2 : ∀ w, n0 ≤ w → w < 4 → me (wh p0 * 4 + w) = me (wh p0 * 4 + n0) := fun w h h' => by rw [← hw1, ← hw1]; exact hb2 w h h'
  have hfree := us_free I0.2.2.2.2.1 hp0 (by rw [h1]; decide)
  refine pz_enterV (by decide) (Nat.le_of_ble_eq_true rfl) ?_
  intro p e s m args below meth c A Q M hA ret C ls hl
  have hx := M.1
  have hb := M.2.1
  have hl : lv_has ls 4 [(0, .ref (ad 0)), (1, .int (nI p0)), (2, .int (nI n0))] := hl
  have go : ∀ i : Nat, i ≤ 23 → ru i = false → ∀ (H : Heap) (locs : List Loc), pz_C (pm_W g ad) g A s (fr, hd, sc, fo, wh, to, ho, me, ru, rl, fv, sv, au, ai) H locs → ∀ ls : Array Slot, lv_has ls 4 [(3, .int (nI i)), (0, .ref (ad 0)), (1, .int (nI p0)), (2, .int (nI n0))] → W p l e ({ frames := 1, cells := 0, slots := 0, locals := 23 }) s m args below meth c H locs 0 0 Q (F0 m 23 ls []) := by
    intro i hi hu H locs C ls hl
    refine lv_aload_n hx hb dX1_squeeze_23 rfl (lv_at hl 1 rfl) ?_
    refine pm_g_ru M C dX1_squeeze_24 ?_
    refine lv_iload_n hx hb dX1_squeeze_27 rfl (lv_at hl 0 rfl) ?_
    refine lv_iconst (v := pz_b true) hx hb dX1_squeeze_28 (by decide +kernel) ?_
    refine pm_s_ru M C (by omega) dX1_squeeze_29 (fun H locs C => ?_)
    refine lv_aload_n hx hb dX1_squeeze_30 rfl (lv_at hl 1 rfl) ?_
    refine pm_g_rl M C dX1_squeeze_31 ?_
    refine lv_iload_n hx hb dX1_squeeze_34 rfl (lv_at hl 0 rfl) ?_
    refine lv_iload_n hx hb dX1_squeeze_35 rfl (lv_at hl 3 rfl) ?_
    refine pm_s_rl M C (by omega) dX1_squeeze_36 (fun H locs C => ?_)
    refine lv_aload_n hx hb dX1_squeeze_37 rfl (lv_at hl 1 rfl) ?_
    refine pm_g_fv M C dX1_squeeze_38 ?_
    refine lv_iload_n hx hb dX1_squeeze_41 rfl (lv_at hl 0 rfl) ?_
    refine lv_aload_n hx hb dX1_squeeze_42 rfl (lv_at hl 1 rfl) ?_
    refine lv_iload_n hx hb dX1_squeeze_43 rfl (lv_at hl 2 rfl) ?_
    refine lv_iconst (v := nI 0) hx hb dX1_squeeze_44 (by decide +kernel) ?_
    have ok1 : ∀ (ru' : Nat → Bool) (fv' sv' : Nat → Int32), ps_ok (fr, hd, sc, fo, wh, to, ho, me, ru', va_up rl i n0, fv', sv', au, ai) p0 := fun _ _ _ => ⟨hp0, by show fo p0 ≤ 3; omega, i2.2.1, fun _ => g3, up_le i4 n4⟩
    refine pz_calli M hA C rfl rfl iX1_48 (mtX1_peek (ok1 _ _ _) (by omega)) ⟨Nat.le_of_ble_eq_true rfl, Nat.le_of_ble_eq_true rfl⟩ ⟨rfl, rfl⟩ rfl hl.1 rfl (Nat.le_of_ble_eq_true rfl) dX1_squeeze_45 ⟨Nat.le_of_ble_eq_true rfl, Nat.le_of_ble_eq_true rfl⟩ (fun r u H locs hp C => ?_)
    obtain ⟨rfl, hr⟩ := hp
    have hr : r = me (wh p0 * 4 + 0) := hr.trans (ps_w1 h1)
    subst hr
    refine pm_s_fv M C (by omega) dX1_squeeze_48 (fun H locs C => ?_)
    refine lv_aload_n hx hb dX1_squeeze_49 rfl (lv_at hl 1 rfl) ?_
    refine pm_g_sv M C dX1_squeeze_50 ?_
    refine lv_iload_n hx hb dX1_squeeze_53 rfl (lv_at hl 0 rfl) ?_
    refine lv_iload_n hx hb dX1_squeeze_54 rfl (lv_at hl 3 rfl) ?_
    refine lv_iconst (v := nI 4) hx hb dX1_squeeze_55 (by decide +kernel) ?_
    refine pz_cge (tgt := 68) M (by omega) (by omega) dX1_squeeze_56 (by decide) (fun h56 => ?_) (fun h56 => ?_)
    · refine lv_iconst (v := 0) hx hb dX1_squeeze_68 (by decide +kernel) ?_
      refine pm_s_sv M C (by omega) dX1_squeeze_69 (fun H locs C => ?_)
      refine lv_aload_n hx hb dX1_squeeze_70 rfl (lv_at hl 1 rfl) ?_
      refine lv_iload_n hx hb dX1_squeeze_71 rfl (lv_at hl 2 rfl) ?_
      refine pz_callv M hA C rfl rfl iX1_52 (mtX1_letGo (ok1 _ _ _) (fun _ => g1)) ⟨Nat.le_of_ble_eq_true rfl, Nat.le_of_ble_eq_true rfl⟩ ⟨rfl, rfl⟩ rfl hl.1 rfl (Nat.le_of_ble_eq_true rfl) dX1_squeeze_72 ⟨Nat.le_of_ble_eq_true rfl, Nat.le_of_ble_eq_true rfl⟩ (fun u H locs hp C => ?_)
      rw [ps_lg1 h1] at hp
      subst hp
      refine lv_aload_n hx hb dX1_squeeze_75 rfl (lv_at hl 1 rfl) ?_
      refine pm_g_fo M C dX1_squeeze_76 ?_
      refine lv_iload_n hx hb dX1_squeeze_79 rfl (lv_at hl 2 rfl) ?_
      refine lv_iconst (v := nI 2) hx hb dX1_squeeze_80 (by decide +kernel) ?_
      refine pm_s_fo M C (by omega) dX1_squeeze_81 (fun H locs C => ?_)
      refine lv_aload_n hx hb dX1_squeeze_82 rfl (lv_at hl 1 rfl) ?_
      refine pm_g_wh M C dX1_squeeze_83 ?_
      refine lv_iload_n hx hb dX1_squeeze_86 rfl (lv_at hl 2 rfl) ?_
      refine lv_iload_n hx hb dX1_squeeze_87 rfl (lv_at hl 0 rfl) ?_
      refine pm_s_wh M C (by omega) dX1_squeeze_88 (fun H locs C => ?_)
      exact ret _ _ _ _ _ C dX1_squeeze_89 (pm_sq I0 hp0 h1 (by omega) hu n4 ha (fun w a b => absurd b (by omega)))
    · refine lv_aload_n hx hb dX1_squeeze_59 rfl (lv_at hl 1 rfl) ?_
      refine lv_iload_n hx hb dX1_squeeze_60 rfl (lv_at hl 2 rfl) ?_
      refine lv_iload_n hx hb dX1_squeeze_61 rfl (lv_at hl 3 rfl) ?_
      refine pz_calli M hA C rfl rfl iX1_48 (mtX1_peek (ok1 _ _ _) (by omega)) ⟨Nat.le_of_ble_eq_true rfl, Nat.le_of_ble_eq_true rfl⟩ ⟨rfl, rfl⟩ rfl hl.1 rfl (Nat.le_of_ble_eq_true rfl) dX1_squeeze_62 ⟨Nat.le_of_ble_eq_true rfl, Nat.le_of_ble_eq_true rfl⟩ (fun r u H locs hp C => ?_)
      obtain ⟨rfl, hr⟩ := hp
      have hr : r = me (wh p0 * 4 + n0) := hr.trans (ps_w1 h1)
      subst hr
      refine lv_goto (tgt := 69) hx hb dX1_squeeze_65 (by decide) ?_
      refine pm_s_sv M C (by omega) dX1_squeeze_69 (fun H locs C => ?_)
      refine lv_aload_n hx hb dX1_squeeze_70 rfl (lv_at hl 1 rfl) ?_
      refine lv_iload_n hx hb dX1_squeeze_71 rfl (lv_at hl 2 rfl) ?_
      refine pz_callv M hA C rfl rfl iX1_52 (mtX1_letGo (ok1 _ _ _) (fun _ => g1)) ⟨Nat.le_of_ble_eq_true rfl, Nat.le_of_ble_eq_true rfl⟩ ⟨rfl, rfl⟩ rfl hl.1 rfl (Nat.le_of_ble_eq_true rfl) dX1_squeeze_72 ⟨Nat.le_of_ble_eq_true rfl, Nat.le_of_ble_eq_true rfl⟩ (fun u H locs hp C => ?_)
      rw [ps_lg1 h1] at hp
      subst hp
      refine lv_aload_n hx hb dX1_squeeze_75 rfl (lv_at hl 1 rfl) ?_
      refine pm_g_fo M C dX1_squeeze_76 ?_
      refine lv_iload_n hx hb dX1_squeeze_79 rfl (lv_at hl 2 rfl) ?_
      refine lv_iconst (v := nI 2) hx hb dX1_squeeze_80 (by decide +kernel) ?_
      refine pm_s_fo M C (by omega) dX1_squeeze_81 (fun H locs C => ?_)
      refine lv_aload_n hx hb dX1_squeeze_82 rfl (lv_at hl 1 rfl) ?_
      refine pm_g_wh M C dX1_squeeze_83 ?_
      refine lv_iload_n hx hb dX1_squeeze_86 rfl (lv_at hl 2 rfl) ?_
      refine lv_iload_n hx hb dX1_squeeze_87 rfl (lv_at hl 0 rfl) ?_
      refine pm_s_wh M C (by omega) dX1_squeeze_88 (fun H locs C => ?_)
      exact ret _ _ _ _ _ C dX1_squeeze_89 (pm_sq I0 hp0 h1 (by omega) hu n4 ha hb2)
  have lp : ∀ (k i : Nat), i ≤ 23 → 24 ≤ i + k → (∀ j, j < i → ru j = true) → ∀ (H : Heap) (locs : List Loc), pz_C (pm_W g ad) g A s (fr, hd, sc, fo, wh, to, ho, me, ru, rl, fv, sv, au, ai) H locs → ∀ ls : Array Slot, lv_has ls 4 [(3, .int (nI i)), (0, .ref (ad 0)), (1, .int (nI p0)), (2, .int (nI n0))] → W p l e ({ frames := 1, cells := 0, slots := 0, locals := 23 }) s m args below meth c H locs 0 0 Q (F0 m 2 ls []) := by
    intro k
    induction k with
    | zero => intro i _ h; omega
    | succ k ih =>
      intro i hi hk na H locs C ls hl
      refine lv_iload_n hx hb dX1_squeeze_2 rfl (lv_at hl 0 rfl) ?_
      refine lv_bipush (v := nI 23) hx hb dX1_squeeze_3 (by decide +kernel) ?_
      refine pz_cge (tgt := 23) M (by omega) (by omega) dX1_squeeze_5 (by decide) (fun h5 => ?_) (fun h5 => ?_)
      · exact go i hi (pm_fr_of hfree hi na (Or.inl (by omega))) _ _ C _ hl
      · refine lv_aload_n hx hb dX1_squeeze_8 rfl (lv_at hl 1 rfl) ?_
        refine pm_g_ru M C dX1_squeeze_9 ?_
        refine lv_iload_n hx hb dX1_squeeze_12 rfl (lv_at hl 0 rfl) ?_
        refine pm_l_ru M C (by omega) dX1_squeeze_13 ?_
        refine pz_beq (tgt := 23) M dX1_squeeze_14 (by decide) (fun h14 => ?_) (fun h14 => ?_)
        · exact go i hi (pm_fr_of hfree hi na (Or.inr h14)) _ _ C _ hl
        · refine pz_iinc1 (k := 0) (lv' := [(3, _), (0, _), (1, _), (2, _)]) M dX1_squeeze_17 hl rfl (by decide) rfl (fun ls hl => ?_)
          refine lv_goto (tgt := 2) hx hb dX1_squeeze_20 (by decide) ?_
          exact ih (i + 1) (by omega) (by omega) (fun x a => by
    rcases Nat.lt_or_ge x i with q | q
    · exact na x q
    · rw [show x = i by omega]; exact h14) _ _ C _ (lv_sub hl [0, 1, 2, 3] rfl)
  refine lv_iconst (v := nI 0) hx hb dX1_squeeze_0 (by decide +kernel) ?_
  refine lv_istore_n (lv' := [(3, _), (0, _), (1, _), (2, _)]) hx hb dX1_squeeze_1 rfl hl (by decide) rfl (fun ls hl => ?_)
  exact lp 24 0 (by omega) (by omega) (fun x h => absurd h (by omega)) _ _ C _ (lv_sub hl [0, 1, 2, 3] rfl)
set_option maxHeartbeats 4000000 in
set_option maxRecDepth 100000 in
/-- putAside(p): the page leaves its frame for a place aside -/
theorem mtX1_putAside {l : Launch} {g : pz_G} {ad : Nat → Nat} {σ : pm_S} {p0 : Nat} (I : ps_I σ) (hp0 : p0 < 24) (h1 : ps_fo σ p0 = 1) : pz_Mv l yX1_putAside cX1_putAside 4 ({ frames := 1, cells := 0, slots := 0, locals := 23 }) (pm_W g ad) g σ [.ref (ad 0), .int (nI p0)] (fun u => ps_Ev σ p0 u) := by
  obtain ⟨fr, hd, sc, fo, wh, to, ho, me, ru, rl, fv, sv, au, ai⟩ := σ
  have I0 : pm_I fr hd sc fo wh ho rl ru au := I
  have h1 : fo p0 = 1 := h1
  have i2 := I0.2.1 p0 hp0
  have i4 := I0.2.2.2.1
  obtain ⟨g1, g2, g3⟩ := ps_ho1 I0 hp0 h1
  have hfree := us_free I0.2.2.2.2.2 hp0 (by rw [h1]; decide)
  refine pz_enterV (by decide) (Nat.le_of_ble_eq_true rfl) ?_
  intro p e s m args below meth c A Q M hA ret C ls hl
  have hx := M.1
  have hb := M.2.1
  have hl : lv_has ls 4 [(0, .ref (ad 0)), (1, .int (nI p0))] := hl
  have go : ∀ i : Nat, i ≤ 23 → au i = false → ∀ (H : Heap) (locs : List Loc), pz_C (pm_W g ad) g A s (fr, hd, sc, fo, wh, to, ho, me, ru, rl, fv, sv, au, ai) H locs → ∀ ls : Array Slot, lv_has ls 4 [(2, .int (nI i)), (0, .ref (ad 0)), (1, .int (nI p0))] → W p l e ({ frames := 1, cells := 0, slots := 0, locals := 23 }) s m args below meth c H locs 0 0 Q (F0 m 23 ls []) := by
    intro i hi hu H locs C ls hl
    have lp : ∀ (k j : Nat) (ai' : Nat → Int32), j ≤ 4 → 5 ≤ j + k → (∀ w, w < j → ai' (i * 4 + w) = me (wh p0 * 4 + w)) → (∀ x, x < i * 4 ∨ i * 4 + 4 ≤ x → ai' x = ai x) → ∀ (H : Heap) (locs : List Loc), pz_C (pm_W g ad) g A s (fr, hd, sc, fo, wh, to, ho, me, ru, rl, fv, sv, va_up au i true, ai') H locs → ∀ ls : Array Slot, lv_has ls 4 [(3, .int (nI j)), (2, .int (nI i)), (0, .ref (ad 0)), (1, .int (nI p0))] → W p l e ({ frames := 1, cells := 0, slots := 0, locals := 23 }) s m args below meth c H locs 0 0 Q (F0 m 32 ls []) := by
      intro k
      induction k with
      | zero => intro j ai' _ h; omega
      | succ k ih =>
        intro j ai' hj hk ha hb2 H locs C ls hl
        have ok1 : ps_ok (fr, hd, sc, fo, wh, to, ho, me, ru, rl, fv, sv, va_up au i true, ai') p0 := ⟨hp0, by show fo p0 ≤ 3; omega, i2.2.1, fun _ => g3, i4⟩
        refine lv_iload_n hx hb dX1_putAside_32 rfl (lv_at hl 0 rfl) ?_
        refine lv_iconst (v := nI 4) hx hb dX1_putAside_33 (by decide +kernel) ?_
        refine pz_cge (tgt := 59) M (by omega) (by omega) dX1_putAside_34 (by decide) (fun h34 => ?_) (fun h34 => ?_)
        · refine lv_aload_n hx hb dX1_putAside_59 rfl (lv_at hl 2 rfl) ?_
          refine lv_iload_n hx hb dX1_putAside_60 rfl (lv_at hl 3 rfl) ?_
          refine pz_callv M hA C rfl rfl iX1_52 (mtX1_letGo ok1 (fun _ => g1)) ⟨Nat.le_of_ble_eq_true rfl, Nat.le_of_ble_eq_true rfl⟩ ⟨rfl, rfl⟩ rfl hl.1 rfl (Nat.le_of_ble_eq_true rfl) dX1_putAside_61 ⟨Nat.le_of_ble_eq_true rfl, Nat.le_of_ble_eq_true rfl⟩ (fun u H locs hp C => ?_)
          rw [ps_lg1 h1] at hp
          subst hp
          refine lv_aload_n hx hb dX1_putAside_64 rfl (lv_at hl 2 rfl) ?_
          refine pm_g_fo M C dX1_putAside_65 ?_
          refine lv_iload_n hx hb dX1_putAside_68 rfl (lv_at hl 3 rfl) ?_
          refine lv_iconst (v := nI 3) hx hb dX1_putAside_69 (by decide +kernel) ?_
          refine pm_s_fo M C (by omega) dX1_putAside_70 (fun H locs C => ?_)
          refine lv_aload_n hx hb dX1_putAside_71 rfl (lv_at hl 2 rfl) ?_
          refine pm_g_wh M C dX1_putAside_72 ?_
          refine lv_iload_n hx hb dX1_putAside_75 rfl (lv_at hl 3 rfl) ?_
          refine lv_iload_n hx hb dX1_putAside_76 rfl (lv_at hl 1 rfl) ?_
          refine pm_s_wh M C (by omega) dX1_putAside_77 (fun H locs C => ?_)
          exact ret _ _ _ _ _ C dX1_putAside_78 (pm_pa I0 hp0 h1 (by omega) hu (fun w h => ha w (by omega)) hb2)
        · refine lv_aload_n hx hb dX1_putAside_37 rfl (lv_at hl 2 rfl) ?_
          refine pm_g_ai M C dX1_putAside_38 ?_
          refine lv_iload_n hx hb dX1_putAside_41 rfl (lv_at hl 1 rfl) ?_
          refine lv_iconst (v := nI 4) hx hb dX1_putAside_42 (by decide +kernel) ?_
          refine pz_imulN M dX1_putAside_43 ?_
          refine lv_iload_n hx hb dX1_putAside_44 rfl (lv_at hl 0 rfl) ?_
          refine pz_iaddN M dX1_putAside_45 ?_
          refine lv_aload_n hx hb dX1_putAside_46 rfl (lv_at hl 2 rfl) ?_
          refine lv_iload_n hx hb dX1_putAside_47 rfl (lv_at hl 3 rfl) ?_
          refine lv_iload_n hx hb dX1_putAside_48 rfl (lv_at hl 0 rfl) ?_
          refine pz_calli M hA C rfl rfl iX1_48 (mtX1_peek ok1 (by omega)) ⟨Nat.le_of_ble_eq_true rfl, Nat.le_of_ble_eq_true rfl⟩ ⟨rfl, rfl⟩ rfl hl.1 rfl (Nat.le_of_ble_eq_true rfl) dX1_putAside_49 ⟨Nat.le_of_ble_eq_true rfl, Nat.le_of_ble_eq_true rfl⟩ (fun r u H locs hp C => ?_)
          obtain ⟨rfl, hr⟩ := hp
          have hr : r = me (wh p0 * 4 + j) := hr.trans (ps_w1 h1)
          subst hr
          refine pm_s_ai M C (by omega) dX1_putAside_52 (fun H locs C => ?_)
          refine pz_iinc1 (k := 0) (lv' := [(3, _), (2, _), (0, _), (1, _)]) M dX1_putAside_53 hl rfl (by decide) rfl (fun ls hl => ?_)
          refine lv_goto (tgt := 32) hx hb dX1_putAside_56 (by decide) ?_
          exact ih (j + 1) _ (by omega) (by omega) (up4_lt (g := fun w => me (wh p0 * 4 + w)) ha rfl rfl) (up4_out hb2 (by omega) rfl) _ _ C _ (lv_sub hl [0, 1, 2, 3] rfl)
    refine lv_aload_n hx hb dX1_putAside_23 rfl (lv_at hl 1 rfl) ?_
    refine pm_g_au M C dX1_putAside_24 ?_
    refine lv_iload_n hx hb dX1_putAside_27 rfl (lv_at hl 0 rfl) ?_
    refine lv_iconst (v := pz_b true) hx hb dX1_putAside_28 (by decide +kernel) ?_
    refine pm_s_au M C (by omega) dX1_putAside_29 (fun H locs C => ?_)
    refine lv_iconst (v := nI 0) hx hb dX1_putAside_30 (by decide +kernel) ?_
    refine lv_istore_n (lv' := [(3, _), (2, _), (0, _), (1, _)]) hx hb dX1_putAside_31 rfl hl (by decide) rfl (fun ls hl => ?_)
    exact lp 5 0 _ (by omega) (by omega) (fun w h => absurd h (by omega)) (fun _ _ => rfl) _ _ C _ (lv_sub hl [0, 1, 2, 3] rfl)
  have lp : ∀ (k i : Nat), i ≤ 23 → 24 ≤ i + k → (∀ j, j < i → au j = true) → ∀ (H : Heap) (locs : List Loc), pz_C (pm_W g ad) g A s (fr, hd, sc, fo, wh, to, ho, me, ru, rl, fv, sv, au, ai) H locs → ∀ ls : Array Slot, lv_has ls 4 [(2, .int (nI i)), (0, .ref (ad 0)), (1, .int (nI p0))] → W p l e ({ frames := 1, cells := 0, slots := 0, locals := 23 }) s m args below meth c H locs 0 0 Q (F0 m 2 ls []) := by
    intro k
    induction k with
    | zero => intro i _ h; omega
    | succ k ih =>
      intro i hi hk na H locs C ls hl
      refine lv_iload_n hx hb dX1_putAside_2 rfl (lv_at hl 0 rfl) ?_
      refine lv_bipush (v := nI 23) hx hb dX1_putAside_3 (by decide +kernel) ?_
      refine pz_cge (tgt := 23) M (by omega) (by omega) dX1_putAside_5 (by decide) (fun h5 => ?_) (fun h5 => ?_)
      · exact go i hi (pm_fr_of hfree hi na (Or.inl (by omega))) _ _ C _ hl
      · refine lv_aload_n hx hb dX1_putAside_8 rfl (lv_at hl 1 rfl) ?_
        refine pm_g_au M C dX1_putAside_9 ?_
        refine lv_iload_n hx hb dX1_putAside_12 rfl (lv_at hl 0 rfl) ?_
        refine pm_l_au M C (by omega) dX1_putAside_13 ?_
        refine pz_beq (tgt := 23) M dX1_putAside_14 (by decide) (fun h14 => ?_) (fun h14 => ?_)
        · exact go i hi (pm_fr_of hfree hi na (Or.inr h14)) _ _ C _ hl
        · refine pz_iinc1 (k := 0) (lv' := [(2, _), (0, _), (1, _)]) M dX1_putAside_17 hl rfl (by decide) rfl (fun ls hl => ?_)
          refine lv_goto (tgt := 2) hx hb dX1_putAside_20 (by decide) ?_
          exact ih (i + 1) (by omega) (by omega) (fun x a => by
    rcases Nat.lt_or_ge x i with q | q
    · exact na x q
    · rw [show x = i by omega]; exact h14) _ _ C _ (lv_sub hl [0, 1, 2] rfl)
  refine lv_iconst (v := nI 0) hx hb dX1_putAside_0 (by decide +kernel) ?_
  refine lv_istore_n (lv' := [(2, _), (0, _), (1, _)]) hx hb dX1_putAside_1 rfl hl (by decide) rfl (fun ls hl => ?_)
  exact lp 24 0 (by omega) (by omega) (fun x h => absurd h (by omega)) _ _ C _ (lv_sub hl [0, 1, 2] rfl)
set_option maxHeartbeats 4000000 in
set_option maxRecDepth 100000 in
/-- evict(p): the page leaves its frame -/
theorem mtX1_evict {l : Launch} {g : pz_G} {ad : Nat → Nat} {σ : pm_S} {p0 : Nat} (I : ps_I σ) (hp0 : p0 < 24) (h1 : ps_fo σ p0 = 1) : pz_Mv l yX1_evict cX1_evict 3 ({ frames := 2, cells := 0, slots := 0, locals := 49 }) (pm_W g ad) g σ [.ref (ad 0), .int (nI p0)] (fun u => ps_Ev σ p0 u) := by
  obtain ⟨fr, hd, sc, fo, wh, to, ho, me, ru, rl, fv, sv, au, ai⟩ := σ
  refine pz_enterV (by decide) (Nat.le_of_ble_eq_true rfl) ?_
  intro p e s m args below meth c A Q M hA ret C ls hl
  have hx := M.1
  have hb := M.2.1
  have hl : lv_has ls 3 [(0, .ref (ad 0)), (1, .int (nI p0))] := hl
  refine lv_aload_n hx hb dX1_evict_0 rfl (lv_at hl 0 rfl) ?_
  refine lv_iload_n hx hb dX1_evict_1 rfl (lv_at hl 1 rfl) ?_
  refine pz_calli M hA C rfl rfl iX1_56 (mtX1_runsOf (ps_ok_I I hp0)) ⟨Nat.le_of_ble_eq_true rfl, Nat.le_of_ble_eq_true rfl⟩ ⟨rfl, rfl⟩ rfl hl.1 rfl (Nat.le_of_ble_eq_true rfl) dX1_evict_2 ⟨Nat.le_of_ble_eq_true rfl, Nat.le_of_ble_eq_true rfl⟩ (fun r u H locs hp C => ?_)
  obtain ⟨rfl, n, rfl, hn⟩ := hp
  refine lv_istore_n (lv' := [(2, _), (0, _), (1, _)]) hx hb dX1_evict_5 rfl hl (by decide) rfl (fun ls hl => ?_)
  refine lv_iload_n hx hb dX1_evict_6 rfl (lv_at hl 0 rfl) ?_
  refine pz_zle (tgt := 19) M (by have := hn.1; omega) dX1_evict_7 (by decide) (fun h7 => ?_) (fun h7 => ?_)
  · refine lv_aload_n hx hb dX1_evict_19 rfl (lv_at hl 1 rfl) ?_
    refine lv_iload_n hx hb dX1_evict_20 rfl (lv_at hl 2 rfl) ?_
    refine pz_callv M hA C rfl rfl iX1_64 (mtX1_putAside I hp0 h1) ⟨Nat.le_of_ble_eq_true rfl, Nat.le_of_ble_eq_true rfl⟩ ⟨rfl, rfl⟩ rfl hl.1 rfl (Nat.le_of_ble_eq_true rfl) dX1_evict_21 ⟨Nat.le_of_ble_eq_true rfl, Nat.le_of_ble_eq_true rfl⟩ (fun u H locs hp C => ?_)
    exact ret _ _ _ _ _ C dX1_evict_24 hp
  · refine lv_aload_n hx hb dX1_evict_10 rfl (lv_at hl 1 rfl) ?_
    refine lv_iload_n hx hb dX1_evict_11 rfl (lv_at hl 2 rfl) ?_
    refine lv_iload_n hx hb dX1_evict_12 rfl (lv_at hl 0 rfl) ?_
    refine pz_callv M hA C rfl rfl iX1_60 (mtX1_squeeze I hp0 h1 h7 hn) ⟨Nat.le_of_ble_eq_true rfl, Nat.le_of_ble_eq_true rfl⟩ ⟨rfl, rfl⟩ rfl hl.1 rfl (Nat.le_of_ble_eq_true rfl) dX1_evict_13 ⟨Nat.le_of_ble_eq_true rfl, Nat.le_of_ble_eq_true rfl⟩ (fun u H locs hp C => ?_)
    refine lv_goto (tgt := 24) hx hb dX1_evict_16 (by decide) ?_
    exact ret _ _ _ _ _ C dX1_evict_24 hp
end
section
/-! plain laws: the hand's round -/
def pm_FF (r : Int32) (u : pm_S) : Prop := (∃ f, f < ps_fr u ∧ r = nI f ∧ ps_ho u f = 0) ∨ (r = (-1) ∧ ∀ f, f < ps_fr u → ps_ho u f ≠ 0)
/-- k steps of the hand: what is kept, and which pages in frames it has passed -/
def tf_J (σ : pm_S) (a b k : Nat) (u : pm_S) : Prop := ps_I u ∧ ps_Eq σ u ∧ ps_fr u = ps_fr σ ∧ ps_sc u = ps_sc σ ∧ (ps_fo u a = ps_fo σ a ∧ ps_wh u a = ps_wh σ a) ∧ (ps_fo u b = ps_fo σ b ∧ ps_wh u b = ps_wh σ b) ∧ ps_hd u = (ps_hd σ + k) % 24 ∧ ps_hd σ < 24 ∧
  ∀ q, q < 24 → q ≠ a → q ≠ b → ps_fo u q = 1 → k ≤ (q + 24 - ps_hd σ) % 24 + 24 ∧ ((q + 24 - ps_hd σ) % 24 < k → ps_to u q = false)
/-- what takeFrame says -/
def ps_Tf (σ : pm_S) (a b : Nat) (r : Int32) (u : pm_S) : Prop := ps_I u ∧ ps_Eq σ u ∧ ps_fr u = ps_fr σ ∧ ps_sc u = ps_sc σ ∧ (ps_fo u a = ps_fo σ a ∧ ps_wh u a = ps_wh σ a) ∧ (ps_fo u b = ps_fo σ b ∧ ps_wh u b = ps_wh σ b) ∧ ∃ f, f < ps_fr u ∧ r = nI f ∧ ps_ho u f = 0
theorem ps_Eq_rf (σ : pm_S) : ps_Eq σ σ := fun _ _ => ⟨Iff.rfl, fun _ _ => rfl⟩
theorem ps_Eq_tr {a b c : pm_S} (h1 : ps_Eq a b) (h2 : ps_Eq b c) : ps_Eq a c := fun q hq => ⟨(h2 q hq).1.trans (h1 q hq).1, fun w hw => ((h2 q hq).2 w hw).trans ((h1 q hq).2 w hw)⟩
theorem tf_0 {σ : pm_S} {a b : Nat} (I : ps_I σ) : tf_J σ a b 0 σ := by
  have h := I.1.2.2.1
  refine ⟨I, ps_Eq_rf σ, rfl, rfl, ⟨rfl, rfl⟩, ⟨rfl, rfl⟩, ?_, h, fun q _ _ _ _ => ⟨by omega, fun h => absurd h (by omega)⟩⟩
  omega
theorem I_hd {fr hd sc hd' : Nat} {fo wh ho rl : Nat → Nat} {ru au : Nat → Bool} (I : pm_I fr hd sc fo wh ho rl ru au) (h : hd' < 24) : pm_I fr hd' sc fo wh ho rl ru au := ⟨⟨I.1.1, I.1.2.1, h, I.1.2.2.2⟩, I.2⟩
theorem I_sc {fr hd sc sc' : Nat} {fo wh ho rl : Nat → Nat} {ru au : Nat → Bool} (I : pm_I fr hd sc fo wh ho rl ru au) (h : sc' < 24) : pm_I fr hd sc' fo wh ho rl ru au := ⟨⟨I.1.1, I.1.2.1, I.1.2.2.1, h⟩, I.2⟩
theorem tf_ar {x k q hd : Nat} (hx : x < 24) (hq : q < 24) (h : hd = (x + k) % 24) (ne : q ≠ hd) : (k ≤ (q + 24 - x) % 24 + 24 → k + 1 ≤ (q + 24 - x) % 24 + 24) ∧ ((q + 24 - x) % 24 < k + 1 → (q + 24 - x) % 24 < k) := by
  constructor
  · intro h2
    omega
  · intro h2
    omega
theorem tf_skip {σ : pm_S} {a b k hd' : Nat} {fr : Nat} {hd : Nat} {sc : Nat} {fo : Nat → Nat} {wh : Nat → Nat} {to : Nat → Bool} {ho : Nat → Nat} {me : Nat → Int32} {ru : Nat → Bool} {rl : Nat → Nat} {fv : Nat → Int32} {sv : Nat → Int32} {au : Nat → Bool} {ai : Nat → Int32} (J : tf_J σ a b k (fr, hd, sc, fo, wh, to, ho, me, ru, rl, fv, sv, au, ai)) (hs : fo hd ≠ 1 ∨ hd = a ∨ hd = b) (e : hd' = (ps_hd σ + (k + 1)) % 24) : tf_J σ a b (k + 1) (fr, hd', sc, fo, wh, to, ho, me, ru, rl, fv, sv, au, ai) := by
  obtain ⟨I, E, f1, f2, f3, f4, f5, f6, P⟩ := J
  have e24 : hd' < 24 := by omega
  refine ⟨I_hd I e24, E, f1, f2, f3, f4, e, f6, ?_⟩
  intro q hq qa qb hf
  have P := P q hq qa qb hf
  have hf : fo q = 1 := hf
  have hne : q ≠ hd := by
    intro h
    rw [h] at hf qa qb
    rcases hs with h | h | h
    · exact h hf
    · exact qa h
    · exact qb h
  have ar := tf_ar (k := k) f6 hq f5 hne
  exact ⟨ar.1 P.1, fun h => P.2 (ar.2 h)⟩
theorem tf_touch {σ : pm_S} {a b k hd' : Nat} {fr : Nat} {hd : Nat} {sc : Nat} {fo : Nat → Nat} {wh : Nat → Nat} {to : Nat → Bool} {ho : Nat → Nat} {me : Nat → Int32} {ru : Nat → Bool} {rl : Nat → Nat} {fv : Nat → Int32} {sv : Nat → Int32} {au : Nat → Bool} {ai : Nat → Int32} (J : tf_J σ a b k (fr, hd, sc, fo, wh, to, ho, me, ru, rl, fv, sv, au, ai)) (e : hd' = (ps_hd σ + (k + 1)) % 24) (ht : to hd = true) (h1 : fo hd = 1) (ha : hd ≠ a) (hb : hd ≠ b) : tf_J σ a b (k + 1) (fr, hd', sc, fo, wh, va_up to hd false, ho, me, ru, rl, fv, sv, au, ai) := by
  obtain ⟨I, E, f1, f2, f3, f4, f5, f6, P⟩ := J
  have e24 : hd' < 24 := by omega
  refine ⟨I_hd I e24, E, f1, f2, f3, f4, e, f6, ?_⟩
  have f5 : hd = (ps_hd σ + k) % 24 := f5
  intro q hq qa qb hf
  by_cases hne : q = hd
  · have P := P q hq qa qb hf
    have hk : ¬ (q + 24 - ps_hd σ) % 24 < k := by
      intro h
      have h2 : to q = false := P.2 h
      rw [hne, ht] at h2
      cases h2
    refine ⟨by omega, fun _ => ?_⟩
    show va_up to hd false q = false
    rw [hne, va_up_self]
  · have P := P q hq qa qb hf
    have ar := tf_ar (k := k) f6 hq f5 hne
    refine ⟨ar.1 P.1, fun h => ?_⟩
    show va_up to hd false q = false
    rw [va_up_ne _ _ hne]
    exact P.2 (ar.2 h)
theorem tf_evict {σ v : pm_S} {a b k hd' : Nat} {fr : Nat} {hd : Nat} {sc : Nat} {fo : Nat → Nat} {wh : Nat → Nat} {to : Nat → Bool} {ho : Nat → Nat} {me : Nat → Int32} {ru : Nat → Bool} {rl : Nat → Nat} {fv : Nat → Int32} {sv : Nat → Int32} {au : Nat → Bool} {ai : Nat → Int32} (J : tf_J σ a b k (fr, hd, sc, fo, wh, to, ho, me, ru, rl, fv, sv, au, ai)) (e : hd' = (ps_hd σ + (k + 1)) % 24) (ha : hd ≠ a) (hb : hd ≠ b) (ha0 : a < 24) (hb0 : b < 24) (V : ps_Ev (fr, hd', sc, fo, wh, to, ho, me, ru, rl, fv, sv, au, ai) hd v) : tf_J σ a b (k + 1) v := by
  obtain ⟨I, E, f1, f2, f3, f4, f5, f6, P⟩ := J
  obtain ⟨I', E', n1, oth, et, eh, es, ef⟩ := V
  have oa := oth a ha0 (Ne.symm ha)
  have ob := oth b hb0 (Ne.symm hb)
  refine ⟨I', ps_Eq_tr E E', ef.trans f1, es.trans f2, ⟨oa.1.trans f3.1, oa.2.trans f3.2⟩, ⟨ob.1.trans f4.1, ob.2.trans f4.2⟩, eh.trans e, f6, ?_⟩
  intro q hq qa qb hf
  have hne : q ≠ hd := fun h => n1 (by rw [← h]; exact hf)
  have oq := oth q hq hne
  have P := P q hq qa qb (oq.1.symm.trans hf)
  have ar := tf_ar (k := k) f6 hq f5 hne
  refine ⟨ar.1 P.1, fun h => ?_⟩
  rw [et]
  exact P.2 (ar.2 h)
theorem tf_end {σ u : pm_S} {a b k : Nat} {r : Int32} (J : tf_J σ a b k u) (F : pm_FF r u) (h : 72 ≤ k ∨ 0 ≤ r) : ps_Tf σ a b r u := by
  obtain ⟨I, E, f1, f2, f3, f4, f5, f6, P⟩ := J
  refine ⟨I, E, f1, f2, f3, f4, ?_⟩
  rcases F with F | ⟨F1, F2⟩
  · exact F
  · exfalso
    rcases h with h | h
    · obtain ⟨f, hf, hc⟩ := cn_free (fo := ps_fo u) (wh := ps_wh u) (a := a) (b := b) (fun q hq h1 => by
        by_cases qa : q = a
        · exact Or.inl qa
        · by_cases qb : q = b
          · exact Or.inr qb
          · have := (P q hq qa qb h1).1
            omega)
      have i := I.1
      refine F2 f (by omega) ?_
      rw [I.2.2.1 f (by omega)]
      exact hc
    · rw [F1] at h
      exact absurd h (by decide +kernel)
end
section
/-! PageMerger: takeFrame -/
set_option maxRecDepth 100000
set_option maxHeartbeats 4000000 in
set_option maxRecDepth 100000 in
/-- takeFrame(a, b): a free frame; pages other than a, b may leave theirs -/
theorem mtX1_takeFrame {l : Launch} {g : pz_G} {ad : Nat → Nat} {σ : pm_S} {a0 b0 : Nat} (I : ps_I σ) (ha0 : a0 < 24) (hb0 : b0 < 24) : pz_Mi l yX1_takeFrame cX1_takeFrame 6 .int ({ frames := 3, cells := 0, slots := 0, locals := 71 }) (pm_W g ad) g σ [.ref (ad 0), .int (nI a0), .int (nI b0)] (fun r u => ps_Tf σ a0 b0 r u) := by
  have h0 := tf_0 (a := a0) (b := b0) I
  have hff : ∀ u : pm_S, ps_I u → ps_fr u ≤ 16 ∧ ∀ f, f < 16 → ps_ho u f ≤ 24 := fun u h => ⟨h.1.2.1, ho_le h⟩
  refine pz_enterI (by decide) (Nat.le_of_ble_eq_true rfl) ?_
  intro p e s m args below meth c A Q M hA ret C ls hl
  have hx := M.1
  have hb := M.2.1
  have hl : lv_has ls 6 [(0, .ref (ad 0)), (1, .int (nI a0)), (2, .int (nI b0))] := hl
  have ex : ∀ (k : Nat) (r : Int32) (u : pm_S), ps_Tf σ a0 b0 r u → ∀ (H : Heap) (locs : List Loc), pz_C (pm_W g ad) g A s u H locs → ∀ ls : Array Slot, lv_has ls 6 [(4, .int (nI k)), (3, .int r), (0, .ref (ad 0)), (1, .int (nI a0)), (2, .int (nI b0))] → W p l e ({ frames := 3, cells := 0, slots := 0, locals := 71 }) s m args below meth c H locs 0 0 Q (F0 m 111 ls []) := by
    intro k r u F H locs C ls hl
    refine lv_iload_n hx hb dX1_takeFrame_111 rfl (lv_at hl 1 rfl) ?_
    refine lv_if_ge (tgt := 119) hx hb dX1_takeFrame_112 (by decide) (fun h112 => ?_) (fun h112 => ?_)
    · refine lv_iload_n hx hb dX1_takeFrame_119 rfl (lv_at hl 1 rfl) ?_
      exact ret _ _ _ _ _ _ C dX1_takeFrame_120 rfl F
    · obtain ⟨-, -, hfr, -, -, -, f, hf, hr, -⟩ := F
      exact absurd (by rw [hr]; exact nI_pos' (by have := I.1.2.1; rw [hfr] at hf; omega)) h112
  have lp : ∀ (n k : Nat) (r : Int32) (fr hd sc : Nat) (fo wh : Nat → Nat) (to : Nat → Bool) (ho : Nat → Nat) (me : Nat → Int32) (ru : Nat → Bool) (rl : Nat → Nat) (fv sv : Nat → Int32) (au : Nat → Bool) (ai : Nat → Int32), k ≤ 72 → 73 ≤ k + n → tf_J σ a0 b0 k (fr, hd, sc, fo, wh, to, ho, me, ru, rl, fv, sv, au, ai) → pm_FF r (fr, hd, sc, fo, wh, to, ho, me, ru, rl, fv, sv, au, ai) → ∀ (H : Heap) (locs : List Loc), pz_C (pm_W g ad) g A s (fr, hd, sc, fo, wh, to, ho, me, ru, rl, fv, sv, au, ai) H locs → ∀ ls : Array Slot, lv_has ls 6 [(4, .int (nI k)), (3, .int r), (0, .ref (ad 0)), (1, .int (nI a0)), (2, .int (nI b0))] → W p l e ({ frames := 3, cells := 0, slots := 0, locals := 71 }) s m args below meth c H locs 0 0 Q (F0 m 8 ls []) := by
    intro n
    induction n with
    | zero => intro k r fr hd sc fo wh to ho me ru rl fv sv au ai _ h; omega
    | succ n ih =>
      intro k r fr hd sc fo wh to ho me ru rl fv sv au ai hk hn J F H locs C ls hl
      refine lv_iload hx hb dX1_takeFrame_8 (lv_at hl 0 rfl) ?_
      refine lv_bipush (v := nI 72) hx hb dX1_takeFrame_10 (by decide +kernel) ?_
      refine pz_cge (tgt := 111) M (by omega) (by omega) dX1_takeFrame_12 (by decide) (fun h12 => ?_) (fun h12 => ?_)
      · exact ex k r _ (tf_end J F (Or.inl h12)) _ _ C _ hl
      · refine lv_iload_n hx hb dX1_takeFrame_15 rfl (lv_at hl 1 rfl) ?_
        refine lv_if_ge (tgt := 111) hx hb dX1_takeFrame_16 (by decide) (fun h16 => ?_) (fun h16 => ?_)
        · exact ex k r _ (tf_end J F (Or.inr h16)) _ _ C _ hl
        · have I1 : pm_I fr hd sc fo wh ho rl ru au := J.1
          have h24 : hd < 24 := I1.1.2.2.1
          have hdk : hd = (ps_hd σ + k) % 24 := J.2.2.2.2.2.2.1
          have hd0 : ps_hd σ < 24 := J.2.2.2.2.2.2.2.1
          have i2 := I1.2.1 hd h24
          refine lv_aload_n hx hb dX1_takeFrame_19 rfl (lv_at hl 2 rfl) ?_
          refine pm_g_hd M C dX1_takeFrame_20 ?_
          refine lv_istore (lv' := [(5, _), (4, _), (3, _), (0, _), (1, _), (2, _)]) hx hb dX1_takeFrame_23 hl (by decide) rfl (fun ls hl => ?_)
          have j100 : ∀ v : pm_S, tf_J σ a0 b0 (k + 1) v → ∀ (H : Heap) (locs : List Loc), pz_C (pm_W g ad) g A s v H locs → ∀ ls : Array Slot, lv_has ls 6 [(4, .int (nI k)), (0, .ref (ad 0)), (1, .int (nI a0)), (2, .int (nI b0))] → W p l e ({ frames := 3, cells := 0, slots := 0, locals := 71 }) s m args below meth c H locs 0 0 Q (F0 m 100 ls []) := by
            intro v J1 H locs C ls hl
            obtain ⟨fr1, hd1, sc1, fo1, wh1, to1, ho1, me1, ru1, rl1, fv1, sv1, au1, ai1⟩ := v
            refine lv_aload_n hx hb dX1_takeFrame_100 rfl (lv_at hl 1 rfl) ?_
            refine pz_calli M hA C rfl rfl iX1_67 (mtX1_freeFrame (hff _ J1.1).1 (hff _ J1.1).2) ⟨Nat.le_of_ble_eq_true rfl, Nat.le_of_ble_eq_true rfl⟩ ⟨rfl, rfl⟩ rfl hl.1 rfl (Nat.le_of_ble_eq_true rfl) dX1_takeFrame_101 ⟨Nat.le_of_ble_eq_true rfl, Nat.le_of_ble_eq_true rfl⟩ (fun r u H locs hp C => ?_)
            obtain ⟨rfl, hp⟩ := hp
            refine lv_istore_n (lv' := [(3, _), (4, _), (0, _), (1, _), (2, _)]) hx hb dX1_takeFrame_104 rfl hl (by decide) rfl (fun ls hl => ?_)
            refine pz_iinc1 (k := 1) (lv' := [(4, _), (3, _), (0, _), (1, _), (2, _)]) M dX1_takeFrame_105 hl rfl (by decide) rfl (fun ls hl => ?_)
            refine lv_goto (tgt := 8) hx hb dX1_takeFrame_108 (by decide) ?_
            exact ih (k + 1) _ _ _ _ _ _ _ _ _ _ _ _ _ _ _ (by omega) (by omega) J1 hp _ _ C _ (lv_sub hl [0, 1, 2, 3, 4] rfl)
          have j50 : ∀ hd' : Nat, hd' = (ps_hd σ + (k + 1)) % 24 → ∀ (H : Heap) (locs : List Loc), pz_C (pm_W g ad) g A s (fr, hd', sc, fo, wh, to, ho, me, ru, rl, fv, sv, au, ai) H locs → ∀ ls : Array Slot, lv_has ls 6 [(5, .int (nI hd)), (4, .int (nI k)), (3, .int r), (0, .ref (ad 0)), (1, .int (nI a0)), (2, .int (nI b0))] → W p l e ({ frames := 3, cells := 0, slots := 0, locals := 71 }) s m args below meth c H locs 0 0 Q (F0 m 50 ls []) := by
            intro hd' he H locs C ls hl
            have e24 : hd' < 24 := by omega
            refine lv_aload_n hx hb dX1_takeFrame_50 rfl (lv_at hl 3 rfl) ?_
            refine pm_g_fo M C dX1_takeFrame_51 ?_
            refine lv_iload hx hb dX1_takeFrame_54 (lv_at hl 0 rfl) ?_
            refine pm_l_fo M C (by omega) dX1_takeFrame_56 ?_
            refine lv_iconst (v := nI 1) hx hb dX1_takeFrame_57 (by decide +kernel) ?_
            refine pz_cne (tgt := 100) M (by omega) (by omega) dX1_takeFrame_58 (by decide) (fun h58 => ?_) (fun h58 => ?_)
            · exact j100 _ (tf_skip J (Or.inl h58) he) _ _ C _ (lv_sub hl [1, 3, 4, 5] rfl)
            · refine lv_iload hx hb dX1_takeFrame_61 (lv_at hl 0 rfl) ?_
              refine lv_iload_n hx hb dX1_takeFrame_63 rfl (lv_at hl 4 rfl) ?_
              refine pz_ceq (tgt := 100) M (by omega) (by omega) dX1_takeFrame_64 (by decide) (fun h64 => ?_) (fun h64 => ?_)
              · exact j100 _ (tf_skip J (Or.inr (Or.inl h64)) he) _ _ C _ (lv_sub hl [1, 3, 4, 5] rfl)
              · refine lv_iload hx hb dX1_takeFrame_67 (lv_at hl 0 rfl) ?_
                refine lv_iload_n hx hb dX1_takeFrame_69 rfl (lv_at hl 5 rfl) ?_
                refine pz_ceq (tgt := 100) M (by omega) (by omega) dX1_takeFrame_70 (by decide) (fun h70 => ?_) (fun h70 => ?_)
                · exact j100 _ (tf_skip J (Or.inr (Or.inr h70)) he) _ _ C _ (lv_sub hl [1, 3, 4, 5] rfl)
                · refine lv_aload_n hx hb dX1_takeFrame_73 rfl (lv_at hl 3 rfl) ?_
                  refine pm_g_to M C dX1_takeFrame_74 ?_
                  refine lv_iload hx hb dX1_takeFrame_77 (lv_at hl 0 rfl) ?_
                  refine pm_l_to M C (by omega) dX1_takeFrame_79 ?_
                  refine pz_beq (tgt := 94) M dX1_takeFrame_80 (by decide) (fun h80 => ?_) (fun h80 => ?_)
                  · refine lv_aload_n hx hb dX1_takeFrame_94 rfl (lv_at hl 3 rfl) ?_
                    refine lv_iload hx hb dX1_takeFrame_95 (lv_at hl 0 rfl) ?_
                    refine pz_callv M hA C rfl rfl iX1_74 (mtX1_evict (I_hd I1 e24) h24 h58) ⟨Nat.le_of_ble_eq_true rfl, Nat.le_of_ble_eq_true rfl⟩ ⟨rfl, rfl⟩ rfl hl.1 rfl (Nat.le_of_ble_eq_true rfl) dX1_takeFrame_97 ⟨Nat.le_of_ble_eq_true rfl, Nat.le_of_ble_eq_true rfl⟩ (fun u H locs hp C => ?_)
                    exact j100 _ (tf_evict J he h64 h70 ha0 hb0 hp) _ _ C _ (lv_sub hl [1, 3, 4, 5] rfl)
                  · refine lv_aload_n hx hb dX1_takeFrame_83 rfl (lv_at hl 3 rfl) ?_
                    refine pm_g_to M C dX1_takeFrame_84 ?_
                    refine lv_iload hx hb dX1_takeFrame_87 (lv_at hl 0 rfl) ?_
                    refine lv_iconst (v := pz_b false) hx hb dX1_takeFrame_89 (by decide +kernel) ?_
                    refine pm_s_to M C (by omega) dX1_takeFrame_90 (fun H locs C => ?_)
                    refine lv_goto (tgt := 100) hx hb dX1_takeFrame_91 (by decide) ?_
                    exact j100 _ (tf_touch J he h80 h58 h64 h70) _ _ C _ (lv_sub hl [1, 3, 4, 5] rfl)
          refine lv_aload_n hx hb dX1_takeFrame_25 rfl (lv_at hl 3 rfl) ?_
          refine lv_aload_n hx hb dX1_takeFrame_26 rfl (lv_at hl 3 rfl) ?_
          refine pm_g_hd M C dX1_takeFrame_27 ?_
          refine lv_iconst (v := nI 1) hx hb dX1_takeFrame_30 (by decide +kernel) ?_
          refine pz_iaddN M dX1_takeFrame_31 ?_
          refine lv_bipush (v := nI 24) hx hb dX1_takeFrame_32 (by decide +kernel) ?_
          refine pz_cge (tgt := 46) M (by omega) (by omega) dX1_takeFrame_34 (by decide) (fun h34 => ?_) (fun h34 => ?_)
          · refine lv_iconst (v := nI 0) hx hb dX1_takeFrame_46 (by decide +kernel) ?_
            refine pm_p_hd M C dX1_takeFrame_47 (fun H locs C => ?_)
            exact j50 _ (by omega) _ _ C _ (lv_sub hl [0, 1, 2, 3, 4, 5] rfl)
          · refine lv_aload_n hx hb dX1_takeFrame_37 rfl (lv_at hl 3 rfl) ?_
            refine pm_g_hd M C dX1_takeFrame_38 ?_
            refine lv_iconst (v := nI 1) hx hb dX1_takeFrame_41 (by decide +kernel) ?_
            refine pz_iaddN M dX1_takeFrame_42 ?_
            refine lv_goto (tgt := 47) hx hb dX1_takeFrame_43 (by decide) ?_
            refine pm_p_hd M C dX1_takeFrame_47 (fun H locs C => ?_)
            exact j50 _ (by omega) _ _ C _ (lv_sub hl [0, 1, 2, 3, 4, 5] rfl)
  have hF := hff σ I
  obtain ⟨fr0, hd0, sc0, fo0, wh0, to0, ho0, me0, ru0, rl0, fv0, sv0, au0, ai0⟩ := σ
  refine lv_aload_n hx hb dX1_takeFrame_0 rfl (lv_at hl 0 rfl) ?_
  refine pz_calli M hA C rfl rfl iX1_67 (mtX1_freeFrame hF.1 hF.2) ⟨Nat.le_of_ble_eq_true rfl, Nat.le_of_ble_eq_true rfl⟩ ⟨rfl, rfl⟩ rfl hl.1 rfl (Nat.le_of_ble_eq_true rfl) dX1_takeFrame_1 ⟨Nat.le_of_ble_eq_true rfl, Nat.le_of_ble_eq_true rfl⟩ (fun r u H locs hp C => ?_)
  obtain ⟨rfl, hp⟩ := hp
  refine lv_istore_n (lv' := [(3, _), (0, _), (1, _), (2, _)]) hx hb dX1_takeFrame_4 rfl hl (by decide) rfl (fun ls hl => ?_)
  refine lv_iconst (v := nI 0) hx hb dX1_takeFrame_5 (by decide +kernel) ?_
  refine lv_istore (lv' := [(4, _), (3, _), (0, _), (1, _), (2, _)]) hx hb dX1_takeFrame_6 hl (by decide) rfl (fun ls hl => ?_)
  exact lp 73 0 _ _ _ _ _ _ _ _ _ _ _ _ _ _ _ (by omega) (by omega) h0 hp _ _ C _ (lv_sub hl [0, 1, 2, 3, 4] rfl)
end
section
/-! plain laws: a page comes into a frame, and into one of its own -/
def ps_Bi (σ : pm_S) (p : Nat) (u : pm_S) : Prop := ps_I u ∧ ps_fo u p = 1 ∧ (∀ q, q < 24 → q ≠ p → (ps_fo u q = 0 ↔ ps_fo σ q = 0)) ∧ ∀ q, q < 24 → ∀ w, w < 4 → ps_w u q w = ps_w σ q w
def ps_Ow (σ : pm_S) (p : Nat) (u : pm_S) : Prop := ps_Bi σ p u ∧ ps_ho u (ps_wh u p) = 1
theorem Bi_Eq {σ u v : pm_S} {p : Nat} (E : ps_Eq σ u) (B : ps_Bi u p v) : ps_Bi σ p v :=
  ⟨B.1, B.2.1, fun q hq hne => (B.2.2.1 q hq hne).trans (E q hq).1, fun q hq w hw => (B.2.2.2 q hq w hw).trans ((E q hq).2 w hw)⟩
theorem Bi_tr {σ u v z : pm_S} {p : Nat} (B0 : ps_Bi σ p u) (E : ps_Eq u v) (B : ps_Bi v p z) : ps_Bi σ p z :=
  ⟨B.1, B.2.1, fun q hq hne => ((B.2.2.1 q hq hne).trans (E q hq).1).trans (B0.2.2.1 q hq hne), fun q hq w hw => ((B.2.2.2 q hq w hw).trans ((E q hq).2 w hw)).trans (B0.2.2.2 q hq w hw)⟩
theorem word_me {fo wh rl : Nat → Nat} {me me' fv sv ai : Nat → Int32} {p w : Nat} (h : fo p ≠ 1) : pm_word fo wh rl me' fv sv ai p w = pm_word fo wh rl me fv sv ai p w := by
  unfold pm_word
  rw [if_neg h, if_neg h]
theorem ps_lg0 {fr : Nat} {hd : Nat} {sc : Nat} {fo : Nat → Nat} {wh : Nat → Nat} {to : Nat → Bool} {ho : Nat → Nat} {me : Nat → Int32} {ru : Nat → Bool} {rl : Nat → Nat} {fv : Nat → Int32} {sv : Nat → Int32} {au : Nat → Bool} {ai : Nat → Int32} {p : Nat} (h : fo p = 0) : ps_lg (fr, hd, sc, fo, wh, to, ho, me, ru, rl, fv, sv, au, ai) p = (fr, hd, sc, va_up fo p 0, wh, to, ho, me, ru, rl, fv, sv, au, ai) := by
  simp [ps_lg, h]
theorem ps_lg2 {fr : Nat} {hd : Nat} {sc : Nat} {fo : Nat → Nat} {wh : Nat → Nat} {to : Nat → Bool} {ho : Nat → Nat} {me : Nat → Int32} {ru : Nat → Bool} {rl : Nat → Nat} {fv : Nat → Int32} {sv : Nat → Int32} {au : Nat → Bool} {ai : Nat → Int32} {p : Nat} (h : fo p = 2) : ps_lg (fr, hd, sc, fo, wh, to, ho, me, ru, rl, fv, sv, au, ai) p = (fr, hd, sc, va_up fo p 0, wh, to, ho, me, va_up ru (wh p) false, rl, fv, sv, au, ai) := by
  simp [ps_lg, h]
theorem ps_lg3 {fr : Nat} {hd : Nat} {sc : Nat} {fo : Nat → Nat} {wh : Nat → Nat} {to : Nat → Bool} {ho : Nat → Nat} {me : Nat → Int32} {ru : Nat → Bool} {rl : Nat → Nat} {fv : Nat → Int32} {sv : Nat → Int32} {au : Nat → Bool} {ai : Nat → Int32} {p : Nat} (h : fo p = 3) : ps_lg (fr, hd, sc, fo, wh, to, ho, me, ru, rl, fv, sv, au, ai) p = (fr, hd, sc, va_up fo p 0, wh, to, ho, me, ru, rl, fv, sv, va_up au (wh p) false, ai) := by
  simp [ps_lg, h]
theorem no_page {fr hd sc : Nat} {fo wh ho rl : Nat → Nat} {ru au : Nat → Bool} {f q : Nat} (I : pm_I fr hd sc fo wh ho rl ru au) (hf : f < fr) (h0 : ho f = 0) (hq : q < 24) (h1 : fo q = 1) : wh q ≠ f := by
  intro e
  have a := I.1.2.1
  have b := I.2.2.1 f (by omega)
  have c := cn_pos 24 hq h1 e
  omega
theorem pm_bi {fr : Nat} {hd : Nat} {sc : Nat} {fo : Nat → Nat} {wh : Nat → Nat} {to : Nat → Bool} {ho : Nat → Nat} {me : Nat → Int32} {ru : Nat → Bool} {rl : Nat → Nat} {fv : Nat → Int32} {sv : Nat → Int32} {au : Nat → Bool} {ai : Nat → Int32} {me' : Nat → Int32} {ru' au' : Nat → Bool} {p f : Nat} (I : pm_I fr hd sc fo wh ho rl ru au) (hp : p < 24) (h1 : fo p ≠ 1) (hf : f < fr) (h0 : ho f = 0) (hm : ∀ w, w < 4 → me' (f * 4 + w) = pm_word fo wh rl me fv sv ai p w) (hm2 : ∀ k, k < f * 4 ∨ f * 4 + 4 ≤ k → me' k = me k)
    (u5 : pm_Us (va_up (va_up fo p 0) p 1) (va_up wh p f) ru' 2) (u6 : pm_Us (va_up (va_up fo p 0) p 1) (va_up wh p f) au' 3) : ps_Bi (fr, hd, sc, fo, wh, to, ho, me, ru, rl, fv, sv, au, ai) p (fr, hd, sc, va_up (va_up fo p 0) p 1, va_up wh p f, to, va_up ho f 1, me', ru', rl, fv, sv, au', ai) := by
  have ch := ch_1 fo wh p 1 f
  have np := fun q hq h => no_page (q := q) I hf h0 hq h
  obtain ⟨i1, i2, i3, i4, i5, i6⟩ := I
  have hj := ho_join i3 hp h1 ch
  rw [h0] at hj
  refine ⟨⟨i1, rg_1 i2 ch (by decide) (by omega) (fun _ => hf), hj, i4, u5, u6⟩, ch.2.1, fun q hq hne => ?_, fun q hq w hw => ?_⟩
  · show va_up (va_up fo p 0) p 1 q = 0 ↔ fo q = 0
    rw [(ch.1 q hq hne).1]
  · by_cases e : q = p
    · subst e
      show pm_word (va_up (va_up fo q 0) q 1) (va_up wh q f) rl me' fv sv ai q w = pm_word fo wh rl me fv sv ai q w
      rw [show pm_word (va_up (va_up fo q 0) q 1) (va_up wh q f) rl me' fv sv ai q w = me' (va_up wh q f q * 4 + w) from if_pos ch.2.1, va_up_self]
      exact hm w hw
    · obtain ⟨a, b⟩ := ch.1 q hq e
      refine word_eq a b (fun h => ?_) (fun _ => ⟨rfl, rfl, rfl⟩) (fun _ => rfl)
      have := np q hq h
      exact hm2 (wh q * 4 + w) (by omega)
theorem pm_ow {fr : Nat} {hd : Nat} {sc : Nat} {fo : Nat → Nat} {wh : Nat → Nat} {to : Nat → Bool} {ho : Nat → Nat} {me : Nat → Int32} {ru : Nat → Bool} {rl : Nat → Nat} {fv : Nat → Int32} {sv : Nat → Int32} {au : Nat → Bool} {ai : Nat → Int32} {me' : Nat → Int32} {p f : Nat} (I : pm_I fr hd sc fo wh ho rl ru au) (hp : p < 24) (h1 : fo p = 1) (hf : f < fr) (h0 : ho f = 0) (hm : ∀ w, w < 4 → me' (f * 4 + w) = me (wh p * 4 + w)) (hm2 : ∀ k, k < f * 4 ∨ f * 4 + 4 ≤ k → me' k = me k) : ps_Ow (fr, hd, sc, fo, wh, to, ho, me, ru, rl, fv, sv, au, ai) p (fr, hd, sc, fo, va_up wh p f, to, va_up (va_up ho (wh p) (ho (wh p) - 1)) f 1, me', ru, rl, fv, sv, au, ai) := by
  have ch : pm_ch fo wh fo (va_up wh p f) p 1 f := ⟨fun q _ hq => ⟨rfl, va_up_ne _ _ hq⟩, h1, va_up_self _ _ _⟩
  have np := fun q hq h => no_page (q := q) I hf h0 hq h
  obtain ⟨i1, i2, i3, i4, i5, i6⟩ := I
  have hj := ho_move i3 hp h1 ch (fun e => np p hp h1 e.symm)
  rw [h0] at hj
  refine ⟨⟨⟨i1, rg_1 i2 ch (by decide) (by omega) (fun _ => hf), hj, i4, us_stay i5 (by omega) ch (by decide), us_stay i6 (by omega) ch (by decide)⟩, h1, fun q hq hne => Iff.rfl, fun q hq w hw => ?_⟩, ?_⟩
  · by_cases e : q = p
    · subst e
      show pm_word fo (va_up wh q f) rl me' fv sv ai q w = pm_word fo wh rl me fv sv ai q w
      rw [show pm_word fo (va_up wh q f) rl me' fv sv ai q w = me' (va_up wh q f q * 4 + w) from if_pos h1, va_up_self, show pm_word fo wh rl me fv sv ai q w = me (wh q * 4 + w) from if_pos h1]
      exact hm w hw
    · obtain ⟨a, b⟩ := ch.1 q hq e
      refine word_eq a b (fun h => ?_) (fun _ => ⟨rfl, rfl, rfl⟩) (fun _ => rfl)
      have := np q hq h
      exact hm2 (wh q * 4 + w) (by omega)
  · show va_up (va_up ho (wh p) (ho (wh p) - 1)) f 1 (va_up wh p f p) = 1
    rw [va_up_self, va_up_self]
end
section
/-! PageMerger: bringIn, own -/
set_option maxRecDepth 100000
set_option maxHeartbeats 4000000 in
set_option maxRecDepth 100000 in
/-- bringIn(p, keep): the page is in a frame, the words are the same -/
theorem mtX1_bringIn {l : Launch} {g : pz_G} {ad : Nat → Nat} {σ : pm_S} {p0 k0 : Nat} (I : ps_I σ) (hp0 : p0 < 24) (hk0 : k0 < 24) : pz_Mv l yX1_bringIn cX1_bringIn 5 ({ frames := 4, cells := 0, slots := 0, locals := 96 }) (pm_W g ad) g σ [.ref (ad 0), .int (nI p0), .int (nI k0)] (fun u => ps_Bi σ p0 u) := by
  obtain ⟨fr, hd, sc, fo, wh, to, ho, me, ru, rl, fv, sv, au, ai⟩ := σ
  have I0 : pm_I fr hd sc fo wh ho rl ru au := I
  have i2 := I0.2.1 p0 hp0
  refine pz_enterV (by decide) (Nat.le_of_ble_eq_true rfl) ?_
  intro p e s m args below meth c A Q M hA ret C ls hl
  have hx := M.1
  have hb := M.2.1
  have hl : lv_has ls 5 [(0, .ref (ad 0)), (1, .int (nI p0)), (2, .int (nI k0))] := hl
  refine lv_aload_n hx hb dX1_bringIn_0 rfl (lv_at hl 0 rfl) ?_
  refine pm_g_to M C dX1_bringIn_1 ?_
  refine lv_iload_n hx hb dX1_bringIn_4 rfl (lv_at hl 1 rfl) ?_
  refine lv_iconst (v := pz_b true) hx hb dX1_bringIn_5 (by decide +kernel) ?_
  refine pm_s_to M C (by omega) dX1_bringIn_6 (fun H locs C => ?_)
  refine lv_aload_n hx hb dX1_bringIn_7 rfl (lv_at hl 0 rfl) ?_
  refine pm_g_fo M C dX1_bringIn_8 ?_
  refine lv_iload_n hx hb dX1_bringIn_11 rfl (lv_at hl 1 rfl) ?_
  refine pm_l_fo M C (by omega) dX1_bringIn_12 ?_
  refine lv_iconst (v := nI 1) hx hb dX1_bringIn_13 (by decide +kernel) ?_
  refine pz_cne (tgt := 18) M (by omega) (by omega) dX1_bringIn_14 (by decide) (fun h14 => ?_) (fun h14 => ?_)
  · refine lv_aload_n hx hb dX1_bringIn_18 rfl (lv_at hl 0 rfl) ?_
    refine lv_iload_n hx hb dX1_bringIn_19 rfl (lv_at hl 1 rfl) ?_
    refine lv_iload_n hx hb dX1_bringIn_20 rfl (lv_at hl 2 rfl) ?_
    refine pz_calli M hA C rfl rfl iX1_77 (mtX1_takeFrame I hp0 hk0) ⟨Nat.le_of_ble_eq_true rfl, Nat.le_of_ble_eq_true rfl⟩ ⟨rfl, rfl⟩ rfl hl.1 rfl (Nat.le_of_ble_eq_true rfl) dX1_bringIn_21 ⟨Nat.le_of_ble_eq_true rfl, Nat.le_of_ble_eq_true rfl⟩ (fun r u H locs hp C => ?_)
    obtain ⟨fr1, hd1, sc1, fo1, wh1, to1, ho1, me1, ru1, rl1, fv1, sv1, au1, ai1⟩ := u
    obtain ⟨I1, E1, -, -, ⟨ea, -⟩, -, f, hf, rfl, h0⟩ := hp
    have I1 : pm_I fr1 hd1 sc1 fo1 wh1 ho1 rl1 ru1 au1 := I1
    have E1 : ps_Eq (fr, hd, sc, fo, wh, to, ho, me, ru, rl, fv, sv, au, ai) (fr1, hd1, sc1, fo1, wh1, to1, ho1, me1, ru1, rl1, fv1, sv1, au1, ai1) := E1
    have ea : fo1 p0 = fo p0 := ea
    have hf : f < fr1 := hf
    have h0 : ho1 f = 0 := h0
    have j1 := I1.1.2.1
    have j2 := I1.2.1 p0 hp0
    have nf1 : fo1 p0 ≠ 1 := by omega
    have lp : ∀ (k j : Nat) (me' : Nat → Int32), j ≤ 4 → 5 ≤ j + k → (∀ w, w < j → me' (f * 4 + w) = pm_word fo1 wh1 rl1 me1 fv1 sv1 ai1 p0 w) → (∀ x, x < f * 4 ∨ f * 4 + 4 ≤ x → me' x = me1 x) → ∀ (H : Heap) (locs : List Loc), pz_C (pm_W g ad) g A s (fr1, hd1, sc1, fo1, wh1, to1, ho1, me', ru1, rl1, fv1, sv1, au1, ai1) H locs → ∀ ls : Array Slot, lv_has ls 5 [(4, .int (nI j)), (3, .int (nI f)), (0, .ref (ad 0)), (1, .int (nI p0)), (2, .int (nI k0))] → W p l e ({ frames := 4, cells := 0, slots := 0, locals := 96 }) s m args below meth c H locs 0 0 Q (F0 m 28 ls []) := by
      intro k
      induction k with
      | zero => intro j me' _ h; omega
      | succ k ih =>
        intro j me' hj hk ha hb2 H locs C ls hl
        have ok1 : ps_ok (fr1, hd1, sc1, fo1, wh1, to1, ho1, me', ru1, rl1, fv1, sv1, au1, ai1) p0 := ⟨hp0, j2.1, j2.2.1, fun e => Nat.lt_of_lt_of_le (j2.2.2 e) j1, I1.2.2.2.1⟩
        refine lv_iload hx hb dX1_bringIn_28 (lv_at hl 0 rfl) ?_
        refine lv_iconst (v := nI 4) hx hb dX1_bringIn_30 (by decide +kernel) ?_
        refine pz_cge (tgt := 58) M (by omega) (by omega) dX1_bringIn_31 (by decide) (fun h31 => ?_) (fun h31 => ?_)
        · rcases (show fo1 p0 = 0 ∨ fo1 p0 = 2 ∨ fo1 p0 = 3 by omega) with hz | hz | hz
          · refine lv_aload_n hx hb dX1_bringIn_58 rfl (lv_at hl 2 rfl) ?_
            refine lv_iload_n hx hb dX1_bringIn_59 rfl (lv_at hl 3 rfl) ?_
            refine pz_callv M hA C rfl rfl iX1_52 (mtX1_letGo ok1 (fun e => absurd (hz.symm.trans e) (by decide))) ⟨Nat.le_of_ble_eq_true rfl, Nat.le_of_ble_eq_true rfl⟩ ⟨rfl, rfl⟩ rfl hl.1 rfl (Nat.le_of_ble_eq_true rfl) dX1_bringIn_60 ⟨Nat.le_of_ble_eq_true rfl, Nat.le_of_ble_eq_true rfl⟩ (fun u H locs hp C => ?_)
            rw [ps_lg0 hz] at hp
            subst hp
            refine lv_aload_n hx hb dX1_bringIn_63 rfl (lv_at hl 2 rfl) ?_
            refine pm_g_ho M C dX1_bringIn_64 ?_
            refine lv_iload_n hx hb dX1_bringIn_67 rfl (lv_at hl 1 rfl) ?_
            refine lv_iconst (v := nI 1) hx hb dX1_bringIn_68 (by decide +kernel) ?_
            refine pm_s_ho M C (by omega) dX1_bringIn_69 (fun H locs C => ?_)
            refine lv_aload_n hx hb dX1_bringIn_70 rfl (lv_at hl 2 rfl) ?_
            refine pm_g_fo M C dX1_bringIn_71 ?_
            refine lv_iload_n hx hb dX1_bringIn_74 rfl (lv_at hl 3 rfl) ?_
            refine lv_iconst (v := nI 1) hx hb dX1_bringIn_75 (by decide +kernel) ?_
            refine pm_s_fo M C (by omega) dX1_bringIn_76 (fun H locs C => ?_)
            refine lv_aload_n hx hb dX1_bringIn_77 rfl (lv_at hl 2 rfl) ?_
            refine pm_g_wh M C dX1_bringIn_78 ?_
            refine lv_iload_n hx hb dX1_bringIn_81 rfl (lv_at hl 3 rfl) ?_
            refine lv_iload_n hx hb dX1_bringIn_82 rfl (lv_at hl 1 rfl) ?_
            refine pm_s_wh M C (by omega) dX1_bringIn_83 (fun H locs C => ?_)
            have ch := ch_1 fo1 wh1 p0 1 f
            exact ret _ _ _ _ _ C dX1_bringIn_84 (Bi_Eq E1 (pm_bi I1 hp0 (by omega) hf h0 (fun w h => ha w (by omega)) hb2 (us_stay I1.2.2.2.2.1 (by omega) ch (by decide)) (us_stay I1.2.2.2.2.2 (by omega) ch (by decide))))
          · refine lv_aload_n hx hb dX1_bringIn_58 rfl (lv_at hl 2 rfl) ?_
            refine lv_iload_n hx hb dX1_bringIn_59 rfl (lv_at hl 3 rfl) ?_
            refine pz_callv M hA C rfl rfl iX1_52 (mtX1_letGo ok1 (fun e => absurd (hz.symm.trans e) (by decide))) ⟨Nat.le_of_ble_eq_true rfl, Nat.le_of_ble_eq_true rfl⟩ ⟨rfl, rfl⟩ rfl hl.1 rfl (Nat.le_of_ble_eq_true rfl) dX1_bringIn_60 ⟨Nat.le_of_ble_eq_true rfl, Nat.le_of_ble_eq_true rfl⟩ (fun u H locs hp C => ?_)
            rw [ps_lg2 hz] at hp
            subst hp
            refine lv_aload_n hx hb dX1_bringIn_63 rfl (lv_at hl 2 rfl) ?_
            refine pm_g_ho M C dX1_bringIn_64 ?_
            refine lv_iload_n hx hb dX1_bringIn_67 rfl (lv_at hl 1 rfl) ?_
            refine lv_iconst (v := nI 1) hx hb dX1_bringIn_68 (by decide +kernel) ?_
            refine pm_s_ho M C (by omega) dX1_bringIn_69 (fun H locs C => ?_)
            refine lv_aload_n hx hb dX1_bringIn_70 rfl (lv_at hl 2 rfl) ?_
            refine pm_g_fo M C dX1_bringIn_71 ?_
            refine lv_iload_n hx hb dX1_bringIn_74 rfl (lv_at hl 3 rfl) ?_
            refine lv_iconst (v := nI 1) hx hb dX1_bringIn_75 (by decide +kernel) ?_
            refine pm_s_fo M C (by omega) dX1_bringIn_76 (fun H locs C => ?_)
            refine lv_aload_n hx hb dX1_bringIn_77 rfl (lv_at hl 2 rfl) ?_
            refine pm_g_wh M C dX1_bringIn_78 ?_
            refine lv_iload_n hx hb dX1_bringIn_81 rfl (lv_at hl 3 rfl) ?_
            refine lv_iload_n hx hb dX1_bringIn_82 rfl (lv_at hl 1 rfl) ?_
            refine pm_s_wh M C (by omega) dX1_bringIn_83 (fun H locs C => ?_)
            have ch := ch_1 fo1 wh1 p0 1 f
            exact ret _ _ _ _ _ C dX1_bringIn_84 (Bi_Eq E1 (pm_bi I1 hp0 (by omega) hf h0 (fun w h => ha w (by omega)) hb2 (us_leave I1.2.2.2.2.1 hp0 hz ch (by decide)) (us_stay I1.2.2.2.2.2 (by omega) ch (by decide))))
          · refine lv_aload_n hx hb dX1_bringIn_58 rfl (lv_at hl 2 rfl) ?_
            refine lv_iload_n hx hb dX1_bringIn_59 rfl (lv_at hl 3 rfl) ?_
            refine pz_callv M hA C rfl rfl iX1_52 (mtX1_letGo ok1 (fun e => absurd (hz.symm.trans e) (by decide))) ⟨Nat.le_of_ble_eq_true rfl, Nat.le_of_ble_eq_true rfl⟩ ⟨rfl, rfl⟩ rfl hl.1 rfl (Nat.le_of_ble_eq_true rfl) dX1_bringIn_60 ⟨Nat.le_of_ble_eq_true rfl, Nat.le_of_ble_eq_true rfl⟩ (fun u H locs hp C => ?_)
            rw [ps_lg3 hz] at hp
            subst hp
            refine lv_aload_n hx hb dX1_bringIn_63 rfl (lv_at hl 2 rfl) ?_
            refine pm_g_ho M C dX1_bringIn_64 ?_
            refine lv_iload_n hx hb dX1_bringIn_67 rfl (lv_at hl 1 rfl) ?_
            refine lv_iconst (v := nI 1) hx hb dX1_bringIn_68 (by decide +kernel) ?_
            refine pm_s_ho M C (by omega) dX1_bringIn_69 (fun H locs C => ?_)
            refine lv_aload_n hx hb dX1_bringIn_70 rfl (lv_at hl 2 rfl) ?_
            refine pm_g_fo M C dX1_bringIn_71 ?_
            refine lv_iload_n hx hb dX1_bringIn_74 rfl (lv_at hl 3 rfl) ?_
            refine lv_iconst (v := nI 1) hx hb dX1_bringIn_75 (by decide +kernel) ?_
            refine pm_s_fo M C (by omega) dX1_bringIn_76 (fun H locs C => ?_)
            refine lv_aload_n hx hb dX1_bringIn_77 rfl (lv_at hl 2 rfl) ?_
            refine pm_g_wh M C dX1_bringIn_78 ?_
            refine lv_iload_n hx hb dX1_bringIn_81 rfl (lv_at hl 3 rfl) ?_
            refine lv_iload_n hx hb dX1_bringIn_82 rfl (lv_at hl 1 rfl) ?_
            refine pm_s_wh M C (by omega) dX1_bringIn_83 (fun H locs C => ?_)
            have ch := ch_1 fo1 wh1 p0 1 f
            exact ret _ _ _ _ _ C dX1_bringIn_84 (Bi_Eq E1 (pm_bi I1 hp0 (by omega) hf h0 (fun w h => ha w (by omega)) hb2 (us_stay I1.2.2.2.2.1 (by omega) ch (by decide)) (us_leave I1.2.2.2.2.2 hp0 hz ch (by decide))))
        · refine lv_aload_n hx hb dX1_bringIn_34 rfl (lv_at hl 2 rfl) ?_
          refine pm_g_me M C dX1_bringIn_35 ?_
          refine lv_iload_n hx hb dX1_bringIn_38 rfl (lv_at hl 1 rfl) ?_
          refine lv_iconst (v := nI 4) hx hb dX1_bringIn_39 (by decide +kernel) ?_
          refine pz_imulN M dX1_bringIn_40 ?_
          refine lv_iload hx hb dX1_bringIn_41 (lv_at hl 0 rfl) ?_
          refine pz_iaddN M dX1_bringIn_43 ?_
          refine lv_aload_n hx hb dX1_bringIn_44 rfl (lv_at hl 2 rfl) ?_
          refine lv_iload_n hx hb dX1_bringIn_45 rfl (lv_at hl 3 rfl) ?_
          refine lv_iload hx hb dX1_bringIn_46 (lv_at hl 0 rfl) ?_
          refine pz_calli M hA C rfl rfl iX1_48 (mtX1_peek ok1 (by omega)) ⟨Nat.le_of_ble_eq_true rfl, Nat.le_of_ble_eq_true rfl⟩ ⟨rfl, rfl⟩ rfl hl.1 rfl (Nat.le_of_ble_eq_true rfl) dX1_bringIn_48 ⟨Nat.le_of_ble_eq_true rfl, Nat.le_of_ble_eq_true rfl⟩ (fun r u H locs hp C => ?_)
          obtain ⟨rfl, hr⟩ := hp
          have hr : r = pm_word fo1 wh1 rl1 me1 fv1 sv1 ai1 p0 j := hr.trans (word_me nf1)
          subst hr
          refine pm_s_me M C (by omega) dX1_bringIn_51 (fun H locs C => ?_)
          refine pz_iinc1 (k := 0) (lv' := [(4, _), (3, _), (0, _), (1, _), (2, _)]) M dX1_bringIn_52 hl rfl (by decide) rfl (fun ls hl => ?_)
          refine lv_goto (tgt := 28) hx hb dX1_bringIn_55 (by decide) ?_
          exact ih (j + 1) _ (by omega) (by omega) (up4_lt ha rfl rfl) (up4_out hb2 (by omega) rfl) _ _ C _ (lv_sub hl [0, 1, 2, 3, 4] rfl)
    refine lv_istore_n (lv' := [(3, _), (0, _), (1, _), (2, _)]) hx hb dX1_bringIn_24 rfl hl (by decide) rfl (fun ls hl => ?_)
    refine lv_iconst (v := nI 0) hx hb dX1_bringIn_25 (by decide +kernel) ?_
    refine lv_istore (lv' := [(4, _), (3, _), (0, _), (1, _), (2, _)]) hx hb dX1_bringIn_26 hl (by decide) rfl (fun ls hl => ?_)
    exact lp 5 0 _ (by omega) (by omega) (fun w h => absurd h (by omega)) (fun _ _ => rfl) _ _ C _ (lv_sub hl [0, 1, 2, 3, 4] rfl)
  · exact ret _ _ _ _ _ C dX1_bringIn_17 ⟨I, h14, fun q hq hne => Iff.rfl, fun q hq w hw => rfl⟩
set_option maxHeartbeats 4000000 in
set_option maxRecDepth 100000 in
/-- own(p): the page is in a frame of its own, the words are the same -/
theorem mtX1_own {l : Launch} {g : pz_G} {ad : Nat → Nat} {σ : pm_S} {p0 : Nat} (I : ps_I σ) (hp0 : p0 < 24) : pz_Mv l yX1_own cX1_own 5 ({ frames := 5, cells := 0, slots := 0, locals := 120 }) (pm_W g ad) g σ [.ref (ad 0), .int (nI p0)] (fun u => ps_Ow σ p0 u) := by
  obtain ⟨fr, hd, sc, fo, wh, to, ho, me, ru, rl, fv, sv, au, ai⟩ := σ
  refine pz_enterV (by decide) (Nat.le_of_ble_eq_true rfl) ?_
  intro p e s m args below meth c A Q M hA ret C ls hl
  have hx := M.1
  have hb := M.2.1
  have hl : lv_has ls 5 [(0, .ref (ad 0)), (1, .int (nI p0))] := hl
  refine lv_aload_n hx hb dX1_own_0 rfl (lv_at hl 0 rfl) ?_
  refine lv_iload_n hx hb dX1_own_1 rfl (lv_at hl 1 rfl) ?_
  refine lv_iload_n hx hb dX1_own_2 rfl (lv_at hl 1 rfl) ?_
  refine pz_callv M hA C rfl rfl iX1_80 (mtX1_bringIn I hp0 hp0) ⟨Nat.le_of_ble_eq_true rfl, Nat.le_of_ble_eq_true rfl⟩ ⟨rfl, rfl⟩ rfl hl.1 rfl (Nat.le_of_ble_eq_true rfl) dX1_own_3 ⟨Nat.le_of_ble_eq_true rfl, Nat.le_of_ble_eq_true rfl⟩ (fun u H locs hp C => ?_)
  obtain ⟨fr1, hd1, sc1, fo1, wh1, to1, ho1, me1, ru1, rl1, fv1, sv1, au1, ai1⟩ := u
  have B0 := hp
  obtain ⟨I1, e1, -, -⟩ := hp
  have I1 : pm_I fr1 hd1 sc1 fo1 wh1 ho1 rl1 ru1 au1 := I1
  have e1 : fo1 p0 = 1 := e1
  obtain ⟨g1, g2, g3⟩ := ps_ho1 I1 hp0 e1
  have g4 := ho_le I1 (wh1 p0) g3
  refine lv_aload_n hx hb dX1_own_6 rfl (lv_at hl 0 rfl) ?_
  refine pm_g_wh M C dX1_own_7 ?_
  refine lv_iload_n hx hb dX1_own_10 rfl (lv_at hl 1 rfl) ?_
  refine pm_l_wh M C (by omega) dX1_own_11 ?_
  refine lv_istore_n (lv' := [(2, _), (0, _), (1, _)]) hx hb dX1_own_12 rfl hl (by decide) rfl (fun ls hl => ?_)
  refine lv_aload_n hx hb dX1_own_13 rfl (lv_at hl 1 rfl) ?_
  refine pm_g_ho M C dX1_own_14 ?_
  refine lv_iload_n hx hb dX1_own_17 rfl (lv_at hl 0 rfl) ?_
  refine pm_l_ho M C (by omega) dX1_own_18 ?_
  refine lv_iconst (v := nI 1) hx hb dX1_own_19 (by decide +kernel) ?_
  refine pz_cne (tgt := 24) M (by omega) (by omega) dX1_own_20 (by decide) (fun h20 => ?_) (fun h20 => ?_)
  · refine lv_aload_n hx hb dX1_own_24 rfl (lv_at hl 1 rfl) ?_
    refine lv_iload_n hx hb dX1_own_25 rfl (lv_at hl 2 rfl) ?_
    refine lv_iload_n hx hb dX1_own_26 rfl (lv_at hl 2 rfl) ?_
    refine pz_calli M hA C rfl rfl iX1_77 (mtX1_takeFrame I1 hp0 hp0) ⟨Nat.le_of_ble_eq_true rfl, Nat.le_of_ble_eq_true rfl⟩ ⟨rfl, rfl⟩ rfl hl.1 rfl (Nat.le_of_ble_eq_true rfl) dX1_own_27 ⟨Nat.le_of_ble_eq_true rfl, Nat.le_of_ble_eq_true rfl⟩ (fun r u H locs hp C => ?_)
    obtain ⟨fr2, hd2, sc2, fo2, wh2, to2, ho2, me2, ru2, rl2, fv2, sv2, au2, ai2⟩ := u
    obtain ⟨I2, E2, -, -, ⟨ea, eb⟩, -, f, hf, rfl, h0⟩ := hp
    have I2 : pm_I fr2 hd2 sc2 fo2 wh2 ho2 rl2 ru2 au2 := I2
    have ea : fo2 p0 = fo1 p0 := ea
    have eb : wh2 p0 = wh1 p0 := eb
    have hf : f < fr2 := hf
    have h0 : ho2 f = 0 := h0
    have j1 := I2.1.2.1
    rw [← eb] at hl g3
    rw [e1] at ea
    obtain ⟨k1, k2, k3⟩ := ps_ho1 I2 hp0 ea
    have nf := no_page I2 hf h0 hp0 ea
    have lp : ∀ (k j : Nat) (me' : Nat → Int32), j ≤ 4 → 5 ≤ j + k → (∀ w, w < j → me' (f * 4 + w) = me2 (wh2 p0 * 4 + w)) → (∀ x, x < f * 4 ∨ f * 4 + 4 ≤ x → me' x = me2 x) → ∀ (H : Heap) (locs : List Loc), pz_C (pm_W g ad) g A s (fr2, hd2, sc2, fo2, wh2, to2, ho2, me', ru2, rl2, fv2, sv2, au2, ai2) H locs → ∀ ls : Array Slot, lv_has ls 5 [(4, .int (nI j)), (3, .int (nI f)), (2, .int (nI (wh2 p0))), (0, .ref (ad 0)), (1, .int (nI p0))] → W p l e ({ frames := 5, cells := 0, slots := 0, locals := 120 }) s m args below meth c H locs 0 0 Q (F0 m 34 ls []) := by
      intro k
      induction k with
      | zero => intro j me' _ h; omega
      | succ k ih =>
        intro j me' hj hk ha hb2 H locs C ls hl
        refine lv_iload hx hb dX1_own_34 (lv_at hl 0 rfl) ?_
        refine lv_iconst (v := nI 4) hx hb dX1_own_36 (by decide +kernel) ?_
        refine pz_cge (tgt := 68) M (by omega) (by omega) dX1_own_37 (by decide) (fun h37 => ?_) (fun h37 => ?_)
        · refine lv_aload_n hx hb dX1_own_68 rfl (lv_at hl 3 rfl) ?_
          refine pm_g_ho M C dX1_own_69 ?_
          refine lv_iload_n hx hb dX1_own_72 rfl (lv_at hl 2 rfl) ?_
          refine lv_dup2_11 hx hb dX1_own_73 rfl rfl ?_
          refine pm_l_ho M C (by omega) dX1_own_74 ?_
          refine lv_iconst (v := nI 1) hx hb dX1_own_75 (by decide +kernel) ?_
          refine pz_isubN M (by omega) dX1_own_76 ?_
          refine pm_s_ho M C (by omega) dX1_own_77 (fun H locs C => ?_)
          refine lv_aload_n hx hb dX1_own_78 rfl (lv_at hl 3 rfl) ?_
          refine pm_g_ho M C dX1_own_79 ?_
          refine lv_iload_n hx hb dX1_own_82 rfl (lv_at hl 1 rfl) ?_
          refine lv_iconst (v := nI 1) hx hb dX1_own_83 (by decide +kernel) ?_
          refine pm_s_ho M C (by omega) dX1_own_84 (fun H locs C => ?_)
          refine lv_aload_n hx hb dX1_own_85 rfl (lv_at hl 3 rfl) ?_
          refine pm_g_wh M C dX1_own_86 ?_
          refine lv_iload_n hx hb dX1_own_89 rfl (lv_at hl 4 rfl) ?_
          refine lv_iload_n hx hb dX1_own_90 rfl (lv_at hl 1 rfl) ?_
          refine pm_s_wh M C (by omega) dX1_own_91 (fun H locs C => ?_)
          have ow := pm_ow (hd := hd2) (sc := sc2) (to := to2) (fv := fv2) (sv := sv2) (ai := ai2) I2 hp0 ea hf h0 (fun w h => ha w (by omega)) hb2
          exact ret _ _ _ _ _ C dX1_own_92 ⟨Bi_tr B0 E2 ow.1, ow.2⟩
        · refine lv_aload_n hx hb dX1_own_40 rfl (lv_at hl 3 rfl) ?_
          refine pm_g_me M C dX1_own_41 ?_
          refine lv_iload_n hx hb dX1_own_44 rfl (lv_at hl 1 rfl) ?_
          refine lv_iconst (v := nI 4) hx hb dX1_own_45 (by decide +kernel) ?_
          refine pz_imulN M dX1_own_46 ?_
          refine lv_iload hx hb dX1_own_47 (lv_at hl 0 rfl) ?_
          refine pz_iaddN M dX1_own_49 ?_
          refine lv_aload_n hx hb dX1_own_50 rfl (lv_at hl 3 rfl) ?_
          refine pm_g_me M C dX1_own_51 ?_
          refine lv_iload_n hx hb dX1_own_54 rfl (lv_at hl 2 rfl) ?_
          refine lv_iconst (v := nI 4) hx hb dX1_own_55 (by decide +kernel) ?_
          refine pz_imulN M dX1_own_56 ?_
          refine lv_iload hx hb dX1_own_57 (lv_at hl 0 rfl) ?_
          refine pz_iaddN M dX1_own_59 ?_
          refine pm_l_me M C (by omega) dX1_own_60 ?_
          refine pm_s_me M C (by omega) dX1_own_61 (fun H locs C => ?_)
          refine pz_iinc1 (k := 0) (lv' := [(4, _), (3, _), (2, _), (0, _), (1, _)]) M dX1_own_62 hl rfl (by decide) rfl (fun ls hl => ?_)
          refine lv_goto (tgt := 34) hx hb dX1_own_65 (by decide) ?_
          exact ih (j + 1) _ (by omega) (by omega) (up4_lt (g := fun w => me2 (wh2 p0 * 4 + w)) ha (hb2 _ (by omega)) rfl) (up4_out hb2 (by omega) rfl) _ _ C _ (lv_sub hl [0, 1, 2, 3, 4] rfl)
    refine lv_istore_n (lv' := [(3, _), (2, _), (0, _), (1, _)]) hx hb dX1_own_30 rfl hl (by decide) rfl (fun ls hl => ?_)
    refine lv_iconst (v := nI 0) hx hb dX1_own_31 (by decide +kernel) ?_
    refine lv_istore (lv' := [(4, _), (3, _), (2, _), (0, _), (1, _)]) hx hb dX1_own_32 hl (by decide) rfl (fun ls hl => ?_)
    exact lp 5 0 _ (by omega) (by omega) (fun w h => absurd h (by omega)) (fun _ _ => rfl) _ _ C _ (lv_sub hl [0, 1, 2, 3, 4] rfl)
  · exact ret _ _ _ _ _ C dX1_own_23 ⟨B0, h20⟩
end
section
/-! what the model answers, and how a PageMerger stands to it -/
def md_pg (n : Nat) (x : Int32) : Option Nat := if x < 0 then none else if x.toNatClampNeg < n then some x.toNatClampNeg else none
theorem pg_some {n k : Nat} (hk : k < n) (hn : n ≤ 2 ^ 31) : md_pg n (nI k) = some k := by
  unfold md_pg
  rw [if_neg (nI_pos (by omega)), nI_clamp (by omega), if_pos hk]
theorem pg_none {n : Nat} {x : Int32} (h : ¬ ∃ k, k < n ∧ x = nI k) : md_pg n x = none := by
  unfold md_pg
  by_cases h0 : x < 0
  · rw [if_pos h0]
  · rw [if_neg h0]
    obtain ⟨j, hj, e⟩ := nI_of h0
    rw [e, nI_clamp hj, if_neg (fun hk => h ⟨j, hk, e⟩)]
def pm_Rl (σ : pm_S) (μ : md_S) : Prop := ps_I σ ∧ ∀ q, q < 24 → (ps_fo σ q = 0 ↔ μ.2 q = true) ∧ ∀ w, w < 4 → ps_w σ q w = μ.1 (q * 4 + w)
def mw_r (μ : md_S) (x1 x2 : Int32) : Int32 := match md_pg 24 x1, md_pg 4 x2 with
  | none, _ => -1
  | some _, none => -2
  | some k, some j => μ.1 (k * 4 + j)
def mw_s (μ : md_S) (x1 x2 x3 : Int32) : md_S := match md_pg 24 x1, md_pg 4 x2 with
  | none, _ => μ
  | some _, none => μ
  | some k, some j => (va_up μ.1 (k * 4 + j) x3, va_up μ.2 k false)
def md_fl (f : Nat → Int32) (k : Nat) (v : Int32) : Nat → Int32 := fun i => if i / 4 = k then v else f i
def mf_r (x1 : Int32) : Int32 := match md_pg 24 x1 with
  | none => -1
  | some _ => 0
def mf_s (μ : md_S) (x1 x2 : Int32) : md_S := match md_pg 24 x1 with
  | none => μ
  | some k => (md_fl μ.1 k x2, va_up μ.2 k false)
def mc_r (x1 x2 : Int32) : Int32 := match md_pg 24 x1, md_pg 24 x2 with
  | none, _ => -1
  | some _, none => -1
  | some _, some _ => 0
def md_cp (f : Nat → Int32) (a b : Nat) : Nat → Int32 := fun i => if i / 4 = b then f (a * 4 + i % 4) else f i
def mc_s (μ : md_S) (x1 x2 : Int32) : md_S := match md_pg 24 x1, md_pg 24 x2 with
  | none, _ => μ
  | some _, none => μ
  | some a, some b => (md_cp μ.1 a b, va_up μ.2 b (μ.2 a))
def md_sw (f : Nat → Int32) (a b : Nat) : Nat → Int32 := fun i => if i / 4 = b then f (a * 4 + i % 4) else if i / 4 = a then f (b * 4 + i % 4) else f i
def mx_s (μ : md_S) (x1 x2 : Int32) : md_S := match md_pg 24 x1, md_pg 24 x2 with
  | none, _ => μ
  | some _, none => μ
  | some a, some b => (md_sw μ.1 a b, va_up (va_up μ.2 a (μ.2 b)) b (μ.2 a))
def ml_r (μ : md_S) (x : Int32) : Int32 := match md_pg 24 x with
  | none => -1
  | some k => if μ.2 k = true then -3 else 0
def ml_s (μ : md_S) (x : Int32) : md_S := match md_pg 24 x with
  | none => μ
  | some k => if μ.2 k = true then μ else (md_fl μ.1 k 0, va_up μ.2 k true)
def mh_r (μ : md_S) (x : Int32) : Bool := match md_pg 24 x with
  | none => false
  | some k => !(μ.2 k)
def md_sm (f : Nat → Int32) (a b : Nat) : Bool := (List.range 4).all (fun w => f (a * 4 + w) == f (b * 4 + w))
theorem sm_iff {f : Nat → Int32} {a b : Nat} : md_sm f a b = true ↔ ∀ w, w < 4 → f (a * 4 + w) = f (b * 4 + w) := by
  unfold md_sm
  simp only [List.all_eq_true, List.mem_range, beq_iff_eq]
def ms_r (μ : md_S) (x1 x2 : Int32) : Bool := match md_pg 24 x1, md_pg 24 x2 with
  | none, _ => false
  | some _, none => false
  | some a, some b => md_sm μ.1 a b
def md_ag (μ : md_S) (p : Nat) : Nat → Bool
  | 0 => false
  | n + 1 => md_ag μ p n || (!(μ.2 n) && md_sm μ.1 n p)
def md_ct (P : Nat → Bool) : Nat → Nat
  | 0 => 0
  | n + 1 => md_ct P n + (if P n = true then 1 else 0)
def md_pl (f : Nat → Int32) (p : Nat) : Bool := (List.range 4).all (fun w => f (p * 4 + w) == f (p * 4))
theorem pl_iff {f : Nat → Int32} {p : Nat} : md_pl f p = true ↔ ∀ w, w < 4 → f (p * 4 + w) = f (p * 4) := by
  unfold md_pl
  simp only [List.all_eq_true, List.mem_range, beq_iff_eq]
def md_sg (f : Nat → Int32) (a : Nat) : Nat → Int32
  | 0 => 0
  | n + 1 => md_sg f a n + f (a + n)
def mu_r (μ : md_S) (x : Int32) : Int32 := match md_pg 3 x with
  | none => 0
  | some g => md_sg μ.1 (g * 32) 32
def mn_r (μ : md_S) : Int32 := nI (md_ct (fun p => !(μ.2 p) && !(md_ag μ p p)) 24)
def me_r (μ : md_S) : Int32 := nI (md_ct (fun p => !(μ.2 p) && md_ag μ p p) 24)
def mp_r (μ : md_S) : Int32 := nI (md_ct (fun p => md_pl μ.1 p && !(μ.2 p)) 24)
theorem ct_le (P : Nat → Bool) : ∀ n, md_ct P n ≤ n := by
  intro n
  induction n with
  | zero => exact Nat.le_refl 0
  | succ n ih =>
    unfold md_ct
    split <;> omega
theorem ag_mono {μ : md_S} {p i : Nat} (h : md_ag μ p i = true) : ∀ n, i ≤ n → md_ag μ p n = true := by
  intro n
  induction n with
  | zero => intro hn; rw [show i = 0 by omega] at h; exact h
  | succ n ih =>
    intro hn
    rcases Nat.lt_or_ge n i with q | q
    · rw [show n + 1 = i by omega]; exact h
    · unfold md_ag
      rw [ih q]
      rfl
/-! the relation is kept -/
theorem Rl_Eq {σ u : pm_S} {μ : md_S} (R : pm_Rl σ μ) (I : ps_I u) (E : ps_Eq σ u) : pm_Rl u μ := ⟨I, fun q hq => ⟨(E q hq).1.trans (R.2 q hq).1, fun w hw => ((E q hq).2 w hw).trans ((R.2 q hq).2 w hw)⟩⟩
theorem Rl_Bi {σ u : pm_S} {μ : md_S} {p : Nat} (R : pm_Rl σ μ) (B : ps_Bi σ p u) (h : ps_fo σ p ≠ 0) : pm_Rl u μ := by
  refine Rl_Eq R B.1 (fun q hq => ⟨?_, fun w hw => B.2.2.2 q hq w hw⟩)
  by_cases e : q = p
  · rw [e, B.2.1]
    exact ⟨fun h => absurd h (by decide), fun h' => absurd h' h⟩
  · exact B.2.2.1 q hq e
theorem Rl_me {fr : Nat} {hd : Nat} {sc : Nat} {fo : Nat → Nat} {wh : Nat → Nat} {to : Nat → Bool} {ho : Nat → Nat} {me : Nat → Int32} {ru : Nat → Bool} {rl : Nat → Nat} {fv : Nat → Int32} {sv : Nat → Int32} {au : Nat → Bool} {ai : Nat → Int32} {σ : pm_S} {μ : md_S} {k : Nat} {me' f' : Nat → Int32} (R : pm_Rl σ μ) (O : ps_Ow σ k (fr, hd, sc, fo, wh, to, ho, me, ru, rl, fv, sv, au, ai)) (hk : k < 24) (hm : ∀ w, w < 4 → me' (wh k * 4 + w) = f' (k * 4 + w)) (hm2 : ∀ x, x < wh k * 4 ∨ wh k * 4 + 4 ≤ x → me' x = me x) (hf : ∀ i, i / 4 ≠ k → f' i = μ.1 i) : pm_Rl (fr, hd, sc, fo, wh, to, ho, me', ru, rl, fv, sv, au, ai) (f', va_up μ.2 k false) := by
  obtain ⟨⟨I, e1, gn, wd⟩, h1⟩ := O
  have I1 : pm_I fr hd sc fo wh ho rl ru au := I
  have e1 : fo k = 1 := e1
  have h1 : ho (wh k) = 1 := h1
  have g3 := (ps_ho1 I1 hk e1).2.2
  rw [I1.2.2.1 _ g3] at h1
  refine ⟨I, fun q hq => ?_⟩
  by_cases e : q = k
  · subst e
    refine ⟨?_, fun w hw => ?_⟩
    · show fo q = 0 ↔ va_up μ.2 q false q = true
      rw [e1, va_up_self]
      exact ⟨fun h => absurd h (by decide), fun h => by cases h⟩
    · exact (show pm_word fo wh rl me' fv sv ai q w = me' (wh q * 4 + w) from if_pos e1).trans (hm w hw)
  · refine ⟨?_, fun w hw => ?_⟩
    · show fo q = 0 ↔ va_up μ.2 k false q = true
      rw [va_up_ne _ _ e]
      exact (gn q hq e).trans (R.2 q hq).1
    · show pm_word fo wh rl me' fv sv ai q w = f' (q * 4 + w)
      rw [hf _ (by omega), ← (R.2 q hq).2 w hw, ← wd q hq w hw]
      refine word_eq rfl rfl (fun h => ?_) (fun _ => ⟨rfl, rfl, rfl⟩) (fun _ => rfl)
      have ne : wh q ≠ wh k := fun h2 => e (cn_only h1 hq hk h h2 e1 rfl)
      exact hm2 (wh q * 4 + w) (by omega)
/-- a page is given up: the state's law holds on, the others are as before -/
def ps_Lg (σ : pm_S) (p : Nat) (u : pm_S) : Prop := ps_I u ∧ ps_fo u p = 0 ∧ ∀ q, q < 24 → q ≠ p → ps_fo u q = ps_fo σ q ∧ ps_wh u q = ps_wh σ q ∧ ∀ w, w < 4 → ps_w u q w = ps_w σ q w
theorem ch_0 (fo wh : Nat → Nat) (p : Nat) : pm_ch fo wh (va_up fo p 0) wh p 0 (wh p) := ⟨fun q _ hq => ⟨va_up_ne _ _ hq, rfl⟩, va_up_self _ _ _, rfl⟩
theorem lg_I {fr : Nat} {hd : Nat} {sc : Nat} {fo : Nat → Nat} {wh : Nat → Nat} {to : Nat → Bool} {ho : Nat → Nat} {me : Nat → Int32} {ru : Nat → Bool} {rl : Nat → Nat} {fv : Nat → Int32} {sv : Nat → Int32} {au : Nat → Bool} {ai : Nat → Int32} {p : Nat} (I : pm_I fr hd sc fo wh ho rl ru au) (hp : p < 24) : ps_Lg (fr, hd, sc, fo, wh, to, ho, me, ru, rl, fv, sv, au, ai) p (ps_lg (fr, hd, sc, fo, wh, to, ho, me, ru, rl, fv, sv, au, ai) p) := by
  have ch := ch_0 fo wh p
  have g := I.2.1 p hp
  have I0 := I
  obtain ⟨i1, i2, i3, i4, i5, i6⟩ := I
  have rg := rg_1 i2 ch (by decide) g.2.1 (fun e => absurd e (by decide))
  have oth : ∀ (ho' : Nat → Nat) (ru' au' : Nat → Bool), pm_I fr hd sc (va_up fo p 0) wh ho' rl ru' au' → ps_Lg (fr, hd, sc, fo, wh, to, ho, me, ru, rl, fv, sv, au, ai) p (fr, hd, sc, va_up fo p 0, wh, to, ho', me, ru', rl, fv, sv, au', ai) := by
    intro ho' ru' au' I'
    refine ⟨I', va_up_self _ _ _, fun q hq hne => ⟨va_up_ne _ _ hne, rfl, fun w hw => ?_⟩⟩
    exact word_eq (va_up_ne _ _ hne) rfl (fun _ => rfl) (fun _ => ⟨rfl, rfl, rfl⟩) (fun _ => rfl)
  rcases (show fo p = 0 ∨ fo p = 1 ∨ fo p = 2 ∨ fo p = 3 by omega) with h | h | h | h
  · rw [ps_lg0 h]
    exact oth _ _ _ ⟨i1, rg, ho_stay i3 hp (by omega) ch (by decide), i4, us_stay i5 (by omega) ch (by decide), us_stay i6 (by omega) ch (by decide)⟩
  · rw [ps_lg1 h]
    exact oth _ _ _ ⟨i1, rg, ho_leave i3 hp h ch (by decide), i4, us_stay i5 (by omega) ch (by decide), us_stay i6 (by omega) ch (by decide)⟩
  · rw [ps_lg2 h]
    exact oth _ _ _ ⟨i1, rg, ho_stay i3 hp (by omega) ch (by decide), i4, us_leave i5 hp h ch (by decide), us_stay i6 (by omega) ch (by decide)⟩
  · rw [ps_lg3 h]
    exact oth _ _ _ ⟨i1, rg, ho_stay i3 hp (by omega) ch (by decide), i4, us_stay i5 (by omega) ch (by decide), us_leave i6 hp h ch (by decide)⟩
theorem ps_w0 {σ : pm_S} {p w : Nat} (h : ps_fo σ p = 0) : ps_w σ p w = 0 := by
  unfold ps_w pm_word
  rw [h, if_neg (by decide), if_neg (by decide), if_neg (by decide)]
theorem Rl_Lg {σ u : pm_S} {μ : md_S} {p : Nat} {f' : Nat → Int32} (R : pm_Rl σ μ) (L : ps_Lg σ p u) (hm : ∀ w, w < 4 → f' (p * 4 + w) = 0) (hf : ∀ i, i / 4 ≠ p → f' i = μ.1 i) : pm_Rl u (f', va_up μ.2 p true) := by
  refine ⟨L.1, fun q hq => ?_⟩
  by_cases e : q = p
  · subst e
    refine ⟨?_, fun w hw => ?_⟩
    · show ps_fo u q = 0 ↔ va_up μ.2 q true q = true
      rw [L.2.1, va_up_self]
      exact ⟨fun _ => rfl, fun _ => rfl⟩
    · rw [ps_w0 L.2.1]
      exact (hm w hw).symm
  · obtain ⟨a, b, c⟩ := L.2.2 q hq e
    refine ⟨?_, fun w hw => ?_⟩
    · show ps_fo u q = 0 ↔ va_up μ.2 p true q = true
      rw [va_up_ne _ _ e, a]
      exact (R.2 q hq).1
    · rw [c w hw, (R.2 q hq).2 w hw]
      exact (hf _ (by omega)).symm
/-- the copy shares the frame -/
theorem Rl_cp {fr : Nat} {hd : Nat} {sc : Nat} {fo : Nat → Nat} {wh : Nat → Nat} {to : Nat → Bool} {ho : Nat → Nat} {me : Nat → Int32} {ru : Nat → Bool} {rl : Nat → Nat} {fv : Nat → Int32} {sv : Nat → Int32} {au : Nat → Bool} {ai : Nat → Int32} {σ σ1 : pm_S} {μ : md_S} {a b : Nat} {to' : Nat → Bool} (R : pm_Rl σ μ) (B : ps_Bi σ a σ1) (L : ps_Lg σ1 b (fr, hd, sc, fo, wh, to, ho, me, ru, rl, fv, sv, au, ai)) (ha : a < 24) (hb : b < 24) (ne : a ≠ b) (hn : ps_fo σ a ≠ 0) : pm_Rl (fr, hd, sc, va_up fo b 1, va_up wh b (wh a), to', va_up ho (wh a) (ho (wh a) + 1), me, ru, rl, fv, sv, au, ai) (md_cp μ.1 a b, va_up μ.2 b (μ.2 a)) := by
  have R1 := Rl_Bi R B hn
  obtain ⟨I, h0, oth⟩ := L
  have I1 : pm_I fr hd sc fo wh ho rl ru au := I
  have h0 : fo b = 0 := h0
  obtain ⟨oa1, oa2, oa3⟩ := oth a ha ne
  have fa : fo a = 1 := oa1.trans B.2.1
  have ch : pm_ch fo wh (va_up fo b 1) (va_up wh b (wh a)) b 1 (wh a) := ⟨fun q _ hq => ⟨va_up_ne _ _ hq, va_up_ne _ _ hq⟩, va_up_self _ _ _, va_up_self _ _ _⟩
  have g := ps_ho1 I1 ha fa
  obtain ⟨i1, i2, i3, i4, i5, i6⟩ := I1
  have ra : μ.2 a = false := by
    cases h : μ.2 a with
    | false => rfl
    | true => exact absurd ((R.2 a ha).1.mpr h) hn
  refine ⟨⟨i1, rg_1 i2 ch (by decide) (by omega) (fun _ => g.2.1), ho_join i3 hb (by omega) ch, i4, us_stay i5 (by omega) ch (by decide), us_stay i6 (by omega) ch (by decide)⟩, fun q hq => ?_⟩
  by_cases e : q = b
  · subst e
    refine ⟨?_, fun w hw => ?_⟩
    · show va_up fo q 1 q = 0 ↔ va_up μ.2 q (μ.2 a) q = true
      rw [va_up_self, va_up_self, ra]
      exact ⟨fun h => absurd h (by decide), fun h => by cases h⟩
    · show pm_word (va_up fo q 1) (va_up wh q (wh a)) rl me fv sv ai q w = md_cp μ.1 a q (q * 4 + w)
      rw [show pm_word (va_up fo q 1) (va_up wh q (wh a)) rl me fv sv ai q w = me (va_up wh q (wh a) q * 4 + w) from if_pos (va_up_self _ _ _), va_up_self]
      have x1 : me (wh a * 4 + w) = μ.1 (a * 4 + w) := by
        rw [← (R1.2 a ha).2 w hw, ← oa3 w hw]
        exact (show pm_word fo wh rl me fv sv ai a w = me (wh a * 4 + w) from if_pos fa).symm
      rw [x1]
      unfold md_cp
      rw [if_pos (by omega), show (q * 4 + w) % 4 = w by omega]
  · obtain ⟨oq1, oq2, oq3⟩ := oth q hq e
    have oq1 : fo q = ps_fo σ1 q := oq1
    refine ⟨?_, fun w hw => ?_⟩
    · show va_up fo b 1 q = 0 ↔ va_up μ.2 b (μ.2 a) q = true
      rw [va_up_ne _ _ e, va_up_ne _ _ e, oq1]
      exact (R1.2 q hq).1
    · have x2 : pm_word (va_up fo b 1) (va_up wh b (wh a)) rl me fv sv ai q w = pm_word fo wh rl me fv sv ai q w := word_eq (va_up_ne _ _ e) (va_up_ne _ _ e) (fun _ => rfl) (fun _ => ⟨rfl, rfl, rfl⟩) (fun _ => rfl)
      refine x2.trans ((oq3 w hw).trans (((R1.2 q hq).2 w hw).trans ?_))
      show μ.1 (q * 4 + w) = md_cp μ.1 a b (q * 4 + w)
      unfold md_cp
      rw [if_neg (by omega)]
/-- two pages change places -/
theorem Rl_sw {fr : Nat} {hd : Nat} {sc : Nat} {fo : Nat → Nat} {wh : Nat → Nat} {to : Nat → Bool} {ho : Nat → Nat} {me : Nat → Int32} {ru : Nat → Bool} {rl : Nat → Nat} {fv : Nat → Int32} {sv : Nat → Int32} {au : Nat → Bool} {ai : Nat → Int32} {μ : md_S} {a b : Nat} (R : pm_Rl (fr, hd, sc, fo, wh, to, ho, me, ru, rl, fv, sv, au, ai) μ) (ha : a < 24) (hb : b < 24) : pm_Rl (fr, hd, sc, va_up (va_up fo a (fo b)) b (fo a), va_up (va_up wh a (wh b)) b (wh a), to, ho, me, ru, rl, fv, sv, au, ai) (md_sw μ.1 a b, va_up (va_up μ.2 a (μ.2 b)) b (μ.2 a)) := by
  obtain ⟨I, R⟩ := R
  have I1 : pm_I fr hd sc fo wh ho rl ru au := I
  obtain ⟨i1, i2, i3, i4, i5, i6⟩ := I1
  -- where a page's state comes from
  have fr0 : ∀ q, q < 24 → ∃ q', q' < 24 ∧ va_up (va_up fo a (fo b)) b (fo a) q = fo q' ∧ va_up (va_up wh a (wh b)) b (wh a) q = wh q' ∧ va_up (va_up μ.2 a (μ.2 b)) b (μ.2 a) q = μ.2 q' ∧ (∀ w, w < 4 → md_sw μ.1 a b (q * 4 + w) = μ.1 (q' * 4 + w)) ∧ q' = (if q = b then a else if q = a then b else q) := by
    intro q hq
    by_cases e1 : q = b
    · refine ⟨a, ha, by rw [e1, va_up_self], by rw [e1, va_up_self], by rw [e1, va_up_self], fun w hw => ?_, by rw [if_pos e1]⟩
      unfold md_sw
      rw [if_pos (by omega), show (q * 4 + w) % 4 = w by omega]
    · by_cases e2 : q = a
      · refine ⟨b, hb, by rw [va_up_ne _ _ e1, e2, va_up_self], by rw [va_up_ne _ _ e1, e2, va_up_self], by rw [va_up_ne _ _ e1, e2, va_up_self], fun w hw => ?_, by rw [if_neg e1, if_pos e2]⟩
        unfold md_sw
        rw [if_neg (by omega), if_pos (by omega), show (q * 4 + w) % 4 = w by omega]
      · refine ⟨q, hq, by rw [va_up_ne _ _ e1, va_up_ne _ _ e2], by rw [va_up_ne _ _ e1, va_up_ne _ _ e2], by rw [va_up_ne _ _ e1, va_up_ne _ _ e2], fun w hw => ?_, by rw [if_neg e1, if_neg e2]⟩
        unfold md_sw
        rw [if_neg (by omega), if_neg (by omega)]
  have us : ∀ (u : Nat → Bool) (k : Nat), pm_Us fo wh u k → pm_Us (va_up (va_up fo a (fo b)) b (fo a)) (va_up (va_up wh a (wh b)) b (wh a)) u k := by
    intro u k ⟨x, y, z⟩
    refine ⟨fun r hr hu => ?_, fun q hq hf => ?_, fun q q2 hq hq2 hf hf2 hw => ?_⟩
    · obtain ⟨q, hq, h1, h2⟩ := x r hr hu
      have hs : (if q = b then a else if q = a then b else q) < 24 := by split; exact ha; split; exact hb; exact hq
      obtain ⟨q', hq', j1, j2, -, -, j5⟩ := fr0 _ hs
      have e : q' = q := by
        rw [j5]
        repeat' split
        all_goals omega
      exact ⟨_, hs, by rw [j1, e]; exact h1, by rw [j2, e]; exact h2⟩
    · obtain ⟨q', hq', j1, j2, -, -, -⟩ := fr0 q hq
      rw [j2]
      exact y q' hq' (by rw [← j1]; exact hf)
    · obtain ⟨q', hq', j1, j2, -, -, j5⟩ := fr0 q hq
      obtain ⟨q3, hq3, k1, k2, -, -, k5⟩ := fr0 q2 hq2
      rw [j1] at hf
      rw [k1] at hf2
      rw [j2, k2] at hw
      have e := z q' q3 hq' hq3 hf hf2 hw
      rw [j5, k5] at e
      revert e
      repeat' split
      all_goals omega
  have cn : ∀ f, pm_cn (va_up (va_up fo a (fo b)) b (fo a)) (va_up (va_up wh a (wh b)) b (wh a)) f 24 = pm_cn fo wh f 24 := by
    intro f
    have c1 := cn_ch (fo := fo) (wh := wh) (fo' := va_up fo a (fo b)) (wh' := va_up wh a (wh b)) (p := a) f 24 (fun q _ hq => ⟨va_up_ne _ _ hq, va_up_ne _ _ hq⟩)
    have c2 := cn_ch (fo := va_up fo a (fo b)) (wh := va_up wh a (wh b)) (fo' := va_up (va_up fo a (fo b)) b (fo a)) (wh' := va_up (va_up wh a (wh b)) b (wh a)) (p := b) f 24 (fun q _ hq => ⟨va_up_ne _ _ hq, va_up_ne _ _ hq⟩)
    have eb1 : va_up fo a (fo b) b = fo b := by
      by_cases e : b = a
      · rw [e, va_up_self]
      · rw [va_up_ne _ _ e]
    have eb2 : va_up wh a (wh b) b = wh b := by
      by_cases e : b = a
      · rw [e, va_up_self]
      · rw [va_up_ne _ _ e]
    rw [va_up_self, va_up_self] at c1
    rw [va_up_self, va_up_self, eb1, eb2] at c2
    simp only [ha, true_and] at c1
    simp only [hb, true_and] at c2
    omega
  refine ⟨⟨i1, fun q hq => ?_, fun f hf => ?_, i4, us ru 2 i5, us au 3 i6⟩, fun q hq => ?_⟩
  · obtain ⟨q', hq', j1, j2, -⟩ := fr0 q hq
    show va_up (va_up fo a (fo b)) b (fo a) q ≤ 3 ∧ va_up (va_up wh a (wh b)) b (wh a) q < 24 ∧ (va_up (va_up fo a (fo b)) b (fo a) q = 1 → va_up (va_up wh a (wh b)) b (wh a) q < fr)
    rw [j1, j2]
    exact i2 q' hq'
  · exact (i3 f hf).trans (cn f).symm
  · obtain ⟨q', hq', j1, j2, j3, j4, -⟩ := fr0 q hq
    refine ⟨?_, fun w hw => ?_⟩
    · show va_up (va_up fo a (fo b)) b (fo a) q = 0 ↔ va_up (va_up μ.2 a (μ.2 b)) b (μ.2 a) q = true
      rw [j1, j3]
      exact (R q' hq').1
    · show pm_word (va_up (va_up fo a (fo b)) b (fo a)) (va_up (va_up wh a (wh b)) b (wh a)) rl me fv sv ai q w = md_sw μ.1 a b (q * 4 + w)
      rw [j4 w hw, ← (R q' hq').2 w hw]
      show pm_word (va_up (va_up fo a (fo b)) b (fo a)) (va_up (va_up wh a (wh b)) b (wh a)) rl me fv sv ai q w = pm_word fo wh rl me fv sv ai q' w
      unfold pm_word
      rw [j1, j2]
theorem Rl_sm {σ : pm_S} {μ : md_S} {a b : Nat} (R : pm_Rl σ μ) (ha : a < 24) (hb : b < 24) : (∀ w, w < 4 → ps_w σ a w = ps_w σ b w) ↔ md_sm μ.1 a b = true := by
  rw [sm_iff]
  constructor
  · intro h w hw
    rw [← (R.2 a ha).2 w hw, ← (R.2 b hb).2 w hw]
    exact h w hw
  · intro h w hw
    rw [(R.2 a ha).2 w hw, (R.2 b hb).2 w hw]
    exact h w hw
end
section
/-! PageMerger: the guests' calls -/
set_option maxRecDepth 100000
theorem pz_in_of {n : Nat} {x : Int32} (hn : n < 2 ^ 31) (h : ¬ x < 0) (h2 : x < nI n) : ∃ j, j < n ∧ x = nI j := by
  obtain ⟨j, hj, e⟩ := nI_of h
  subst e
  exact ⟨j, (nI_ltI hj hn).mp h2, rfl⟩
theorem pz_no1 {n : Nat} {x : Int32} (hn : n < 2 ^ 31) (h : x < 0) : ¬ ∃ j, j < n ∧ x = nI j := by
  rintro ⟨j, hj, e⟩
  rw [e] at h
  exact nI_pos (by omega) h
theorem pz_no2 {n : Nat} {x : Int32} (hn : n < 2 ^ 31) (h : ¬ x < nI n) : ¬ ∃ j, j < n ∧ x = nI j := by
  rintro ⟨j, hj, e⟩
  rw [e] at h
  exact h (nI_lt hj hn)
theorem wr_1 {σ u : pm_S} {μ : md_S} {k j : Nat} (R : pm_Rl σ μ) (B : ps_Bi σ k u) (hk : k < 24) (hj : j < 4) : ps_me u (ps_wh u k * 4 + j) = μ.1 (k * 4 + j) := by
  rw [← (R.2 k hk).2 j hj, ← B.2.2.2 k hk j hj]
  exact (ps_w1 B.2.1).symm
theorem wr_2 {fr : Nat} {hd : Nat} {sc : Nat} {fo : Nat → Nat} {wh : Nat → Nat} {to : Nat → Bool} {ho : Nat → Nat} {me : Nat → Int32} {ru : Nat → Bool} {rl : Nat → Nat} {fv : Nat → Int32} {sv : Nat → Int32} {au : Nat → Bool} {ai : Nat → Int32} {σ : pm_S} {μ : md_S} {k j : Nat} {v : Int32} (R : pm_Rl σ μ) (O : ps_Ow σ k (fr, hd, sc, fo, wh, to, ho, me, ru, rl, fv, sv, au, ai)) (hk : k < 24) (hj : j < 4) : pm_Rl (fr, hd, sc, fo, wh, to, ho, va_up me (wh k * 4 + j) v, ru, rl, fv, sv, au, ai) (va_up μ.1 (k * 4 + j) v, va_up μ.2 k false) := by
  refine Rl_me R O hk (fun w hw => ?_) (fun x hx => va_up_ne _ _ (by omega)) (fun i hi => va_up_ne _ _ (by omega))
  by_cases e : w = j
  · rw [e, va_up_self, va_up_self]
  · rw [va_up_ne _ _ (by omega), va_up_ne _ _ (by omega)]
    exact wr_1 R O.1 hk hw
theorem lg_pre {σ : pm_S} {p : Nat} (I : ps_I σ) (hp : p < 24) : ps_fo σ p = 1 → 1 ≤ ps_ho σ (ps_wh σ p) := fun h => (ps_ho1 I hp h).1
theorem cp_self (μ : md_S) (k : Nat) : (md_cp μ.1 k k, va_up μ.2 k (μ.2 k)) = μ := by
  refine Prod.ext ?_ ?_
  · funext i
    show (if i / 4 = k then μ.1 (k * 4 + i % 4) else μ.1 i) = μ.1 i
    split
    · rw [show k * 4 + i % 4 = i by omega]
    · rfl
  · funext i
    show (if i = k then μ.2 k else μ.2 i) = μ.2 i
    split
    · rename_i h; rw [h]
    · rfl
theorem up_self4 {f : Nat → Bool} {k : Nat} {b : Bool} (h : f k = b) : va_up f k b = f := by
  funext i
  show (if i = k then b else f i) = f i
  split
  · rename_i e; rw [e, h]
  · rfl
theorem mw_r1 {μ : md_S} {x1 x2 : Int32} (h : ¬ ∃ k, k < 24 ∧ x1 = nI k) : mw_r μ x1 x2 = -1 := by simp only [mw_r, pg_none h]
theorem mw_r2 {μ : md_S} {k : Nat} {x2 : Int32} (hk : k < 24) (h : ¬ ∃ k, k < 4 ∧ x2 = nI k) : mw_r μ (nI k) x2 = -2 := by simp only [mw_r, pg_none h, pg_some hk (show 24 ≤ 2 ^ 31 by decide)]
theorem mw_r3 {μ : md_S} {k j : Nat} (hk : k < 24) (hj : j < 4) : mw_r μ (nI k) (nI j) = μ.1 (k * 4 + j) := by simp only [mw_r, pg_some hj (show 4 ≤ 2 ^ 31 by decide), pg_some hk (show 24 ≤ 2 ^ 31 by decide)]
theorem mw_s1 {μ : md_S} {x1 x2 x3 : Int32} (h : ¬ ∃ k, k < 24 ∧ x1 = nI k) : mw_s μ x1 x2 x3 = μ := by simp only [mw_s, pg_none h]
theorem mw_s2 {μ : md_S} {k : Nat} {x2 x3 : Int32} (hk : k < 24) (h : ¬ ∃ k, k < 4 ∧ x2 = nI k) : mw_s μ (nI k) x2 x3 = μ := by simp only [mw_s, pg_none h, pg_some hk (show 24 ≤ 2 ^ 31 by decide)]
theorem mw_s3 {μ : md_S} {k j : Nat} {x3 : Int32} (hk : k < 24) (hj : j < 4) : mw_s μ (nI k) (nI j) x3 = (va_up μ.1 (k * 4 + j) x3, va_up μ.2 k false) := by simp only [mw_s, pg_some hj (show 4 ≤ 2 ^ 31 by decide), pg_some hk (show 24 ≤ 2 ^ 31 by decide)]
theorem mf_1 {μ : md_S} {x1 x2 : Int32} (h : ¬ ∃ k, k < 24 ∧ x1 = nI k) : mf_r x1 = -1 ∧ mf_s μ x1 x2 = μ := by simp only [mf_r, mf_s, pg_none h, and_self]
theorem mf_2 {μ : md_S} {k : Nat} {x2 : Int32} (h : k < 24) : mf_r (nI k) = 0 ∧ mf_s μ (nI k) x2 = (md_fl μ.1 k x2, va_up μ.2 k false) := by simp only [mf_r, mf_s, pg_some h (show 24 ≤ 2 ^ 31 by decide), and_self]
theorem mc_1 {μ : md_S} {x1 x2 : Int32} (h : ¬ ∃ k, k < 24 ∧ x1 = nI k) : mc_r x1 x2 = -1 ∧ mc_s μ x1 x2 = μ ∧ mx_s μ x1 x2 = μ ∧ ms_r μ x1 x2 = false := by simp only [mc_r, mc_s, mx_s, ms_r, pg_none h, and_self]
theorem mc_2 {μ : md_S} {k : Nat} {x2 : Int32} (hk : k < 24) (h : ¬ ∃ k, k < 24 ∧ x2 = nI k) : mc_r (nI k) x2 = -1 ∧ mc_s μ (nI k) x2 = μ ∧ mx_s μ (nI k) x2 = μ ∧ ms_r μ (nI k) x2 = false := by simp only [mc_r, mc_s, mx_s, ms_r, pg_none h, pg_some hk (show 24 ≤ 2 ^ 31 by decide), and_self]
theorem mc_3 {μ : md_S} {a b : Nat} (ha : a < 24) (hb : b < 24) : mc_r (nI a) (nI b) = 0 ∧ mc_s μ (nI a) (nI b) = (md_cp μ.1 a b, va_up μ.2 b (μ.2 a)) ∧ mx_s μ (nI a) (nI b) = (md_sw μ.1 a b, va_up (va_up μ.2 a (μ.2 b)) b (μ.2 a)) ∧ ms_r μ (nI a) (nI b) = md_sm μ.1 a b := by simp only [mc_r, mc_s, mx_s, ms_r, pg_some ha (show 24 ≤ 2 ^ 31 by decide), pg_some hb (show 24 ≤ 2 ^ 31 by decide), and_self]
theorem ml_1 {μ : md_S} {x1 : Int32} (h : ¬ ∃ k, k < 24 ∧ x1 = nI k) : ml_r μ x1 = -1 ∧ ml_s μ x1 = μ ∧ mh_r μ x1 = false := by simp only [ml_r, ml_s, mh_r, pg_none h, and_self]
theorem ml_2 {μ : md_S} {k : Nat} (h : k < 24) : ml_r μ (nI k) = (if μ.2 k = true then -3 else 0) ∧ ml_s μ (nI k) = (if μ.2 k = true then μ else (md_fl μ.1 k 0, va_up μ.2 k true)) ∧ mh_r μ (nI k) = !(μ.2 k) := by simp only [ml_r, ml_s, mh_r, pg_some h (show 24 ≤ 2 ^ 31 by decide), and_self]
theorem Rl_fn {σ : pm_S} {μ : md_S} {q : Nat} (R : pm_Rl σ μ) (hq : q < 24) (h : ps_fo σ q ≠ 0) : μ.2 q = false := by
  cases e : μ.2 q with
  | false => rfl
  | true => exact absurd ((R.2 q hq).1.mpr e) h
set_option maxHeartbeats 4000000 in
set_option maxRecDepth 100000 in
/-- write(p, word, value) as the model has it -/
theorem mtX1_write {l : Launch} {g : pz_G} {ad : Nat → Nat} {σ : pm_S} {μ : md_S} {x1 x2 x3 : Int32} (R : pm_Rl σ μ) : pz_Mi l yX1_write cX1_write 6 .int ({ frames := 6, cells := 0, slots := 0, locals := 144 }) (pm_W g ad) g σ [.ref (ad 0), .int x1, .int x2, .int x3] (fun r u => r = mw_r μ x1 x2 ∧ pm_Rl u (mw_s μ x1 x2 x3)) := by
  obtain ⟨fr, hd, sc, fo, wh, to, ho, me, ru, rl, fv, sv, au, ai⟩ := σ
  have I0 : pm_I fr hd sc fo wh ho rl ru au := R.1
  refine pz_enterI (by decide) (Nat.le_of_ble_eq_true rfl) ?_
  intro p e s m args below meth c A Q M hA ret C ls hl
  have hx := M.1
  have hb := M.2.1
  have hl : lv_has ls 6 [(0, .ref (ad 0)), (1, .int x1), (2, .int x2), (3, .int x3)] := hl
  refine lv_iload_n hx hb dX1_write_0 rfl (lv_at hl 1 rfl) ?_
  refine pz_calls M C iX1_83 mtX1_bad ⟨Nat.le_of_ble_eq_true rfl, Nat.le_of_ble_eq_true rfl⟩ ⟨rfl, rfl⟩ rfl hl.1 rfl (Nat.le_of_ble_eq_true rfl) dX1_write_1 ⟨Nat.le_of_ble_eq_true rfl, Nat.le_of_ble_eq_true rfl⟩ (fun r H locs hp C => ?_)
  rcases hp with ⟨⟨k1, hk1, rfl⟩, rfl⟩ | ⟨hn1, rfl⟩
  · refine lv_if_eq (tgt := 9) hx hb dX1_write_4 (by decide) (fun h4 => ?_) (fun h4 => ?_)
    · refine lv_iload_n hx hb dX1_write_9 rfl (lv_at hl 2 rfl) ?_
      refine lv_if_lt (tgt := 18) hx hb dX1_write_10 (by decide) (fun h10 => ?_) (fun h10 => ?_)
      · refine lv_bipush (v := (-2)) hx hb dX1_write_18 (by decide +kernel) ?_
        exact ret _ _ _ _ _ _ C dX1_write_20 rfl ⟨(mw_r2 hk1 (pz_no1 (by decide) h10)).symm, by rw [mw_s2 hk1 (pz_no1 (by decide) h10)]; exact R⟩
      · refine lv_iload_n hx hb dX1_write_13 rfl (lv_at hl 2 rfl) ?_
        refine lv_iconst (v := nI 4) hx hb dX1_write_14 (by decide +kernel) ?_
        refine lv_icmp_lt (tgt := 21) hx hb dX1_write_15 (by decide) (fun h15 => ?_) (fun h15 => ?_)
        · obtain ⟨j, hj, rfl⟩ := pz_in_of (by decide) h10 h15
          refine lv_aload_n hx hb dX1_write_21 rfl (lv_at hl 0 rfl) ?_
          refine lv_iload_n hx hb dX1_write_22 rfl (lv_at hl 1 rfl) ?_
          refine pz_callv M hA C rfl rfl iX1_87 (mtX1_own R.1 hk1) ⟨Nat.le_of_ble_eq_true rfl, Nat.le_of_ble_eq_true rfl⟩ ⟨rfl, rfl⟩ rfl hl.1 rfl (Nat.le_of_ble_eq_true rfl) dX1_write_23 ⟨Nat.le_of_ble_eq_true rfl, Nat.le_of_ble_eq_true rfl⟩ (fun u H locs hp C => ?_)
          obtain ⟨fr1, hd1, sc1, fo1, wh1, to1, ho1, me1, ru1, rl1, fv1, sv1, au1, ai1⟩ := u
          have O := hp
          obtain ⟨⟨I1, e1, -, -⟩, -⟩ := hp
          have I1 : pm_I fr1 hd1 sc1 fo1 wh1 ho1 rl1 ru1 au1 := I1
          have e1 : fo1 k1 = 1 := e1
          obtain ⟨g1, g2, g3⟩ := ps_ho1 I1 hk1 e1
          refine lv_aload_n hx hb dX1_write_26 rfl (lv_at hl 0 rfl) ?_
          refine pm_g_wh M C dX1_write_27 ?_
          refine lv_iload_n hx hb dX1_write_30 rfl (lv_at hl 1 rfl) ?_
          refine pm_l_wh M C (by omega) dX1_write_31 ?_
          refine lv_iconst (v := nI 4) hx hb dX1_write_32 (by decide +kernel) ?_
          refine pz_imulN M dX1_write_33 ?_
          refine lv_iload_n hx hb dX1_write_34 rfl (lv_at hl 2 rfl) ?_
          refine pz_iaddN M dX1_write_35 ?_
          refine lv_istore (lv' := [(4, _), (0, _), (1, _), (2, _), (3, _)]) hx hb dX1_write_36 hl (by decide) rfl (fun ls hl => ?_)
          refine lv_aload_n hx hb dX1_write_38 rfl (lv_at hl 1 rfl) ?_
          refine pm_g_me M C dX1_write_39 ?_
          refine lv_iload hx hb dX1_write_42 (lv_at hl 0 rfl) ?_
          refine pm_l_me M C (by omega) dX1_write_44 ?_
          refine lv_istore (lv' := [(5, _), (4, _), (0, _), (1, _), (2, _), (3, _)]) hx hb dX1_write_45 hl (by decide) rfl (fun ls hl => ?_)
          refine lv_aload_n hx hb dX1_write_47 rfl (lv_at hl 2 rfl) ?_
          refine pm_g_me M C dX1_write_48 ?_
          refine lv_iload hx hb dX1_write_51 (lv_at hl 1 rfl) ?_
          refine lv_iload_n hx hb dX1_write_53 rfl (lv_at hl 5 rfl) ?_
          refine pm_s_me M C (by omega) dX1_write_54 (fun H locs C => ?_)
          refine lv_iload hx hb dX1_write_55 (lv_at hl 0 rfl) ?_
          exact ret _ _ _ _ _ _ C dX1_write_57 rfl ⟨by rw [mw_r3 hk1 hj]; exact wr_1 R O.1 hk1 hj, by rw [mw_s3 hk1 hj]; exact wr_2 R O hk1 hj⟩
        · refine lv_bipush (v := (-2)) hx hb dX1_write_18 (by decide +kernel) ?_
          exact ret _ _ _ _ _ _ C dX1_write_20 rfl ⟨(mw_r2 hk1 (pz_no2 (by decide) h15)).symm, by rw [mw_s2 hk1 (pz_no2 (by decide) h15)]; exact R⟩
    · exact absurd rfl h4
  · refine lv_if_eq (tgt := 9) hx hb dX1_write_4 (by decide) (fun h4 => ?_) (fun h4 => ?_)
    · exact absurd h4 (by decide +kernel)
    · refine lv_iconst (v := (-1)) hx hb dX1_write_7 (by decide +kernel) ?_
      exact ret _ _ _ _ _ _ C dX1_write_8 rfl ⟨(mw_r1 hn1).symm, by rw [mw_s1 hn1]; exact R⟩
set_option maxHeartbeats 4000000 in
set_option maxRecDepth 100000 in
/-- fill(p, value) as the model has it -/
theorem mtX1_fill {l : Launch} {g : pz_G} {ad : Nat → Nat} {σ : pm_S} {μ : md_S} {x1 x2 : Int32} (R : pm_Rl σ μ) : pz_Mi l yX1_fill cX1_fill 4 .int ({ frames := 6, cells := 0, slots := 0, locals := 144 }) (pm_W g ad) g σ [.ref (ad 0), .int x1, .int x2] (fun r u => r = mf_r x1 ∧ pm_Rl u (mf_s μ x1 x2)) := by
  obtain ⟨fr, hd, sc, fo, wh, to, ho, me, ru, rl, fv, sv, au, ai⟩ := σ
  have I0 : pm_I fr hd sc fo wh ho rl ru au := R.1
  refine pz_enterI (by decide) (Nat.le_of_ble_eq_true rfl) ?_
  intro p e s m args below meth c A Q M hA ret C ls hl
  have hx := M.1
  have hb := M.2.1
  have hl : lv_has ls 4 [(0, .ref (ad 0)), (1, .int x1), (2, .int x2)] := hl
  refine lv_iload_n hx hb dX1_fill_0 rfl (lv_at hl 1 rfl) ?_
  refine pz_calls M C iX1_83 mtX1_bad ⟨Nat.le_of_ble_eq_true rfl, Nat.le_of_ble_eq_true rfl⟩ ⟨rfl, rfl⟩ rfl hl.1 rfl (Nat.le_of_ble_eq_true rfl) dX1_fill_1 ⟨Nat.le_of_ble_eq_true rfl, Nat.le_of_ble_eq_true rfl⟩ (fun r H locs hp C => ?_)
  rcases hp with ⟨⟨k1, hk1, rfl⟩, rfl⟩ | ⟨hn1, rfl⟩
  · refine lv_if_eq (tgt := 9) hx hb dX1_fill_4 (by decide) (fun h4 => ?_) (fun h4 => ?_)
    · refine lv_aload_n hx hb dX1_fill_9 rfl (lv_at hl 0 rfl) ?_
      refine lv_iload_n hx hb dX1_fill_10 rfl (lv_at hl 1 rfl) ?_
      refine pz_callv M hA C rfl rfl iX1_87 (mtX1_own R.1 hk1) ⟨Nat.le_of_ble_eq_true rfl, Nat.le_of_ble_eq_true rfl⟩ ⟨rfl, rfl⟩ rfl hl.1 rfl (Nat.le_of_ble_eq_true rfl) dX1_fill_11 ⟨Nat.le_of_ble_eq_true rfl, Nat.le_of_ble_eq_true rfl⟩ (fun u H locs hp C => ?_)
      obtain ⟨fr1, hd1, sc1, fo1, wh1, to1, ho1, me1, ru1, rl1, fv1, sv1, au1, ai1⟩ := u
      have O := hp
      obtain ⟨⟨I1, e1, -, -⟩, -⟩ := hp
      have I1 : pm_I fr1 hd1 sc1 fo1 wh1 ho1 rl1 ru1 au1 := I1
      have e1 : fo1 k1 = 1 := e1
      obtain ⟨g1, g2, g3⟩ := ps_ho1 I1 hk1 e1
      have lp : ∀ (k j : Nat) (me' : Nat → Int32), j ≤ 4 → 5 ≤ j + k → (∀ w, w < j → me' (wh1 k1 * 4 + w) = x2) → (∀ x, x < wh1 k1 * 4 ∨ wh1 k1 * 4 + 4 ≤ x → me' x = me1 x) → ∀ (H : Heap) (locs : List Loc), pz_C (pm_W g ad) g A s (fr1, hd1, sc1, fo1, wh1, to1, ho1, me', ru1, rl1, fv1, sv1, au1, ai1) H locs → ∀ ls : Array Slot, lv_has ls 4 [(3, .int (nI j)), (0, .ref (ad 0)), (1, .int (nI k1)), (2, .int x2)] → W p l e ({ frames := 6, cells := 0, slots := 0, locals := 144 }) s m args below meth c H locs 0 0 Q (F0 m 16 ls []) := by
        intro k
        induction k with
        | zero => intro j me' _ h; omega
        | succ k ih =>
          intro j me' hj hk ha hb2 H locs C ls hl
          refine lv_iload_n hx hb dX1_fill_16 rfl (lv_at hl 0 rfl) ?_
          refine lv_iconst (v := nI 4) hx hb dX1_fill_17 (by decide +kernel) ?_
          refine pz_cge (tgt := 43) M (by omega) (by omega) dX1_fill_18 (by decide) (fun h18 => ?_) (fun h18 => ?_)
          · refine lv_iconst (v := 0) hx hb dX1_fill_43 (by decide +kernel) ?_
            exact ret _ _ _ _ _ _ C dX1_fill_44 rfl ⟨(mf_2 (μ := μ) (x2 := x2) hk1).1.symm, by rw [(mf_2 hk1).2]; exact Rl_me R O hk1 (fun w h => (ha w (by omega)).trans (by unfold md_fl; rw [if_pos (by omega)])) hb2 (fun i hi => by unfold md_fl; rw [if_neg hi])⟩
          · refine lv_aload_n hx hb dX1_fill_21 rfl (lv_at hl 1 rfl) ?_
            refine pm_g_me M C dX1_fill_22 ?_
            refine lv_aload_n hx hb dX1_fill_25 rfl (lv_at hl 1 rfl) ?_
            refine pm_g_wh M C dX1_fill_26 ?_
            refine lv_iload_n hx hb dX1_fill_29 rfl (lv_at hl 2 rfl) ?_
            refine pm_l_wh M C (by omega) dX1_fill_30 ?_
            refine lv_iconst (v := nI 4) hx hb dX1_fill_31 (by decide +kernel) ?_
            refine pz_imulN M dX1_fill_32 ?_
            refine lv_iload_n hx hb dX1_fill_33 rfl (lv_at hl 0 rfl) ?_
            refine pz_iaddN M dX1_fill_34 ?_
            refine lv_iload_n hx hb dX1_fill_35 rfl (lv_at hl 3 rfl) ?_
            refine pm_s_me M C (by omega) dX1_fill_36 (fun H locs C => ?_)
            refine pz_iinc1 (k := 0) (lv' := [(3, _), (0, _), (1, _), (2, _)]) M dX1_fill_37 hl rfl (by decide) rfl (fun ls hl => ?_)
            refine lv_goto (tgt := 16) hx hb dX1_fill_40 (by decide) ?_
            exact ih (j + 1) _ (by omega) (by omega) (up4_lt (g := fun _ => x2) ha rfl rfl) (up4_out hb2 (by omega) rfl) _ _ C _ (lv_sub hl [0, 1, 2, 3] rfl)
      refine lv_iconst (v := nI 0) hx hb dX1_fill_14 (by decide +kernel) ?_
      refine lv_istore_n (lv' := [(3, _), (0, _), (1, _), (2, _)]) hx hb dX1_fill_15 rfl hl (by decide) rfl (fun ls hl => ?_)
      exact lp 5 0 _ (by omega) (by omega) (fun w h => absurd h (by omega)) (fun _ _ => rfl) _ _ C _ (lv_sub hl [0, 1, 2, 3] rfl)
    · exact absurd rfl h4
  · refine lv_if_eq (tgt := 9) hx hb dX1_fill_4 (by decide) (fun h4 => ?_) (fun h4 => ?_)
    · exact absurd h4 (by decide +kernel)
    · refine lv_iconst (v := (-1)) hx hb dX1_fill_7 (by decide +kernel) ?_
      exact ret _ _ _ _ _ _ C dX1_fill_8 rfl ⟨(mf_1 (μ := μ) (x2 := x2) hn1).1.symm, by rw [(mf_1 hn1).2]; exact R⟩
set_option maxHeartbeats 4000000 in
set_option maxRecDepth 100000 in
/-- copy(from, to) as the model has it -/
theorem mtX1_copy {l : Launch} {g : pz_G} {ad : Nat → Nat} {σ : pm_S} {μ : md_S} {x1 x2 : Int32} (R : pm_Rl σ μ) : pz_Mi l yX1_copy cX1_copy 3 .int ({ frames := 6, cells := 0, slots := 0, locals := 144 }) (pm_W g ad) g σ [.ref (ad 0), .int x1, .int x2] (fun r u => r = mc_r x1 x2 ∧ pm_Rl u (mc_s μ x1 x2)) := by
  obtain ⟨fr, hd, sc, fo, wh, to, ho, me, ru, rl, fv, sv, au, ai⟩ := σ
  have I0 : pm_I fr hd sc fo wh ho rl ru au := R.1
  refine pz_enterI (by decide) (Nat.le_of_ble_eq_true rfl) ?_
  intro p e s m args below meth c A Q M hA ret C ls hl
  have hx := M.1
  have hb := M.2.1
  have hl : lv_has ls 3 [(0, .ref (ad 0)), (1, .int x1), (2, .int x2)] := hl
  refine lv_iload_n hx hb dX1_copy_0 rfl (lv_at hl 1 rfl) ?_
  refine pz_calls M C iX1_83 mtX1_bad ⟨Nat.le_of_ble_eq_true rfl, Nat.le_of_ble_eq_true rfl⟩ ⟨rfl, rfl⟩ rfl hl.1 rfl (Nat.le_of_ble_eq_true rfl) dX1_copy_1 ⟨Nat.le_of_ble_eq_true rfl, Nat.le_of_ble_eq_true rfl⟩ (fun r H locs hp C => ?_)
  rcases hp with ⟨⟨k1, hk1, rfl⟩, rfl⟩ | ⟨hn1, rfl⟩
  · refine lv_if_ne (tgt := 14) hx hb dX1_copy_4 (by decide) (fun h4 => ?_) (fun h4 => ?_)
    · exact absurd rfl h4
    · refine lv_iload_n hx hb dX1_copy_7 rfl (lv_at hl 2 rfl) ?_
      refine pz_calls M C iX1_83 mtX1_bad ⟨Nat.le_of_ble_eq_true rfl, Nat.le_of_ble_eq_true rfl⟩ ⟨rfl, rfl⟩ rfl hl.1 rfl (Nat.le_of_ble_eq_true rfl) dX1_copy_8 ⟨Nat.le_of_ble_eq_true rfl, Nat.le_of_ble_eq_true rfl⟩ (fun r H locs hp C => ?_)
      rcases hp with ⟨⟨k2, hk2, rfl⟩, rfl⟩ | ⟨hn2, rfl⟩
      · refine lv_if_eq (tgt := 16) hx hb dX1_copy_11 (by decide) (fun h11 => ?_) (fun h11 => ?_)
        · have m3 := mc_3 (μ := μ) hk1 hk2
          have i2 := I0.2.1 k1 hk1
          refine lv_iload_n hx hb dX1_copy_16 rfl (lv_at hl 1 rfl) ?_
          refine lv_iload_n hx hb dX1_copy_17 rfl (lv_at hl 2 rfl) ?_
          refine pz_cne (tgt := 23) M (by omega) (by omega) dX1_copy_18 (by decide) (fun h18 => ?_) (fun h18 => ?_)
          · refine lv_aload_n hx hb dX1_copy_23 rfl (lv_at hl 0 rfl) ?_
            refine pm_g_fo M C dX1_copy_24 ?_
            refine lv_iload_n hx hb dX1_copy_27 rfl (lv_at hl 1 rfl) ?_
            refine pm_l_fo M C (by omega) dX1_copy_28 ?_
            refine pz_zne (tgt := 39) M (by omega) dX1_copy_29 (by decide) (fun h29 => ?_) (fun h29 => ?_)
            · refine lv_aload_n hx hb dX1_copy_39 rfl (lv_at hl 0 rfl) ?_
              refine lv_iload_n hx hb dX1_copy_40 rfl (lv_at hl 1 rfl) ?_
              refine lv_iload_n hx hb dX1_copy_41 rfl (lv_at hl 2 rfl) ?_
              refine pz_callv M hA C rfl rfl iX1_80 (mtX1_bringIn R.1 hk1 hk2) ⟨Nat.le_of_ble_eq_true rfl, Nat.le_of_ble_eq_true rfl⟩ ⟨rfl, rfl⟩ rfl hl.1 rfl (Nat.le_of_ble_eq_true rfl) dX1_copy_42 ⟨Nat.le_of_ble_eq_true rfl, Nat.le_of_ble_eq_true rfl⟩ (fun u H locs hp C => ?_)
              obtain ⟨fr1, hd1, sc1, fo1, wh1, to1, ho1, me1, ru1, rl1, fv1, sv1, au1, ai1⟩ := u
              have B := hp
              obtain ⟨I1, e1, -, -⟩ := hp
              have I1 : pm_I fr1 hd1 sc1 fo1 wh1 ho1 rl1 ru1 au1 := I1
              refine lv_aload_n hx hb dX1_copy_45 rfl (lv_at hl 0 rfl) ?_
              refine lv_iload_n hx hb dX1_copy_46 rfl (lv_at hl 2 rfl) ?_
              refine pz_callv M hA C rfl rfl iX1_52 (mtX1_letGo (ps_ok_I B.1 hk2) (lg_pre B.1 hk2)) ⟨Nat.le_of_ble_eq_true rfl, Nat.le_of_ble_eq_true rfl⟩ ⟨rfl, rfl⟩ rfl hl.1 rfl (Nat.le_of_ble_eq_true rfl) dX1_copy_47 ⟨Nat.le_of_ble_eq_true rfl, Nat.le_of_ble_eq_true rfl⟩ (fun u H locs hp C => ?_)
              have L := lg_I (to := to1) (me := me1) (fv := fv1) (sv := sv1) (ai := ai1) I1 hk2
              rw [← hp] at L
              clear hp
              obtain ⟨fr2, hd2, sc2, fo2, wh2, to2, ho2, me2, ru2, rl2, fv2, sv2, au2, ai2⟩ := u
              have I2 : pm_I fr2 hd2 sc2 fo2 wh2 ho2 rl2 ru2 au2 := L.1
              have f1 : fo2 k1 = 1 := (L.2.2 k1 hk1 h18).1.trans e1
              obtain ⟨g1, g2, g3⟩ := ps_ho1 I2 hk1 f1
              have g4 := ho_le I2 (wh2 k1) g3
              have ew : va_up wh2 k2 (wh2 k1) k1 = wh2 k1 := va_up_ne _ _ h18
              refine lv_aload_n hx hb dX1_copy_50 rfl (lv_at hl 0 rfl) ?_
              refine pm_g_fo M C dX1_copy_51 ?_
              refine lv_iload_n hx hb dX1_copy_54 rfl (lv_at hl 2 rfl) ?_
              refine lv_iconst (v := nI 1) hx hb dX1_copy_55 (by decide +kernel) ?_
              refine pm_s_fo M C (by omega) dX1_copy_56 (fun H locs C => ?_)
              refine lv_aload_n hx hb dX1_copy_57 rfl (lv_at hl 0 rfl) ?_
              refine pm_g_wh M C dX1_copy_58 ?_
              refine lv_iload_n hx hb dX1_copy_61 rfl (lv_at hl 2 rfl) ?_
              refine lv_aload_n hx hb dX1_copy_62 rfl (lv_at hl 0 rfl) ?_
              refine pm_g_wh M C dX1_copy_63 ?_
              refine lv_iload_n hx hb dX1_copy_66 rfl (lv_at hl 1 rfl) ?_
              refine pm_l_wh M C (by omega) dX1_copy_67 ?_
              refine pm_s_wh M C (by omega) dX1_copy_68 (fun H locs C => ?_)
              refine lv_aload_n hx hb dX1_copy_69 rfl (lv_at hl 0 rfl) ?_
              refine pm_g_ho M C dX1_copy_70 ?_
              refine lv_aload_n hx hb dX1_copy_73 rfl (lv_at hl 0 rfl) ?_
              refine pm_g_wh M C dX1_copy_74 ?_
              refine lv_iload_n hx hb dX1_copy_77 rfl (lv_at hl 1 rfl) ?_
              refine pm_l_wh M C (by omega) dX1_copy_78 ?_
              rw [ew]
              refine lv_dup2_11 hx hb dX1_copy_79 rfl rfl ?_
              refine pm_l_ho M C g3 dX1_copy_80 ?_
              refine lv_iconst (v := nI 1) hx hb dX1_copy_81 (by decide +kernel) ?_
              refine pz_iaddN M dX1_copy_82 ?_
              refine pm_s_ho M C (by omega) dX1_copy_83 (fun H locs C => ?_)
              refine lv_aload_n hx hb dX1_copy_84 rfl (lv_at hl 0 rfl) ?_
              refine pm_g_to M C dX1_copy_85 ?_
              refine lv_iload_n hx hb dX1_copy_88 rfl (lv_at hl 2 rfl) ?_
              refine lv_iconst (v := pz_b true) hx hb dX1_copy_89 (by decide +kernel) ?_
              refine pm_s_to M C (by omega) dX1_copy_90 (fun H locs C => ?_)
              refine lv_iconst (v := 0) hx hb dX1_copy_91 (by decide +kernel) ?_
              exact ret _ _ _ _ _ _ C dX1_copy_92 rfl ⟨m3.1.symm, by rw [m3.2.1]; exact Rl_cp R B L hk1 hk2 h18 h29⟩
            · refine lv_aload_n hx hb dX1_copy_32 rfl (lv_at hl 0 rfl) ?_
              refine lv_iload_n hx hb dX1_copy_33 rfl (lv_at hl 2 rfl) ?_
              refine pz_callv M hA C rfl rfl iX1_52 (mtX1_letGo (ps_ok_I R.1 hk2) (lg_pre R.1 hk2)) ⟨Nat.le_of_ble_eq_true rfl, Nat.le_of_ble_eq_true rfl⟩ ⟨rfl, rfl⟩ rfl hl.1 rfl (Nat.le_of_ble_eq_true rfl) dX1_copy_34 ⟨Nat.le_of_ble_eq_true rfl, Nat.le_of_ble_eq_true rfl⟩ (fun u H locs hp C => ?_)
              have L := lg_I (to := to) (me := me) (fv := fv) (sv := sv) (ai := ai) I0 hk2
              rw [← hp] at L
              refine lv_iconst (v := 0) hx hb dX1_copy_37 (by decide +kernel) ?_
              exact ret _ _ _ _ _ _ C dX1_copy_38 rfl ⟨m3.1.symm, by
    rw [m3.2.1, (R.2 k1 hk1).1.mp h29]
    refine Rl_Lg R L (fun w hw => ?_) (fun i hi => by unfold md_cp; rw [if_neg hi])
    unfold md_cp
    rw [if_pos (by omega), show (k2 * 4 + w) % 4 = w by omega, ← (R.2 k1 hk1).2 w hw]
    exact ps_w0 h29⟩
          · refine lv_iconst (v := 0) hx hb dX1_copy_21 (by decide +kernel) ?_
            exact ret _ _ _ _ _ _ C dX1_copy_22 rfl ⟨m3.1.symm, by rw [m3.2.1, ← h18, cp_self]; exact R⟩
        · exact absurd rfl h11
      · refine lv_if_eq (tgt := 16) hx hb dX1_copy_11 (by decide) (fun h11 => ?_) (fun h11 => ?_)
        · exact absurd h11 (by decide +kernel)
        · refine lv_iconst (v := (-1)) hx hb dX1_copy_14 (by decide +kernel) ?_
          exact ret _ _ _ _ _ _ C dX1_copy_15 rfl ⟨(mc_2 (μ := μ) hk1 hn2).1.symm, by rw [(mc_2 hk1 hn2).2.1]; exact R⟩
  · refine lv_if_ne (tgt := 14) hx hb dX1_copy_4 (by decide) (fun h4 => ?_) (fun h4 => ?_)
    · refine lv_iconst (v := (-1)) hx hb dX1_copy_14 (by decide +kernel) ?_
      exact ret _ _ _ _ _ _ C dX1_copy_15 rfl ⟨(mc_1 (μ := μ) hn1).1.symm, by rw [(mc_1 hn1).2.1]; exact R⟩
    · exact absurd h4 (by decide +kernel)
set_option maxHeartbeats 4000000 in
set_option maxRecDepth 100000 in
/-- swap(a, b) as the model has it -/
theorem mtX1_swap {l : Launch} {g : pz_G} {ad : Nat → Nat} {σ : pm_S} {μ : md_S} {x1 x2 : Int32} (R : pm_Rl σ μ) : pz_Mi l yX1_swap cX1_swap 5 .int ({ frames := 6, cells := 0, slots := 0, locals := 144 }) (pm_W g ad) g σ [.ref (ad 0), .int x1, .int x2] (fun r u => r = mc_r x1 x2 ∧ pm_Rl u (mx_s μ x1 x2)) := by
  obtain ⟨fr, hd, sc, fo, wh, to, ho, me, ru, rl, fv, sv, au, ai⟩ := σ
  have I0 : pm_I fr hd sc fo wh ho rl ru au := R.1
  refine pz_enterI (by decide) (Nat.le_of_ble_eq_true rfl) ?_
  intro p e s m args below meth c A Q M hA ret C ls hl
  have hx := M.1
  have hb := M.2.1
  have hl : lv_has ls 5 [(0, .ref (ad 0)), (1, .int x1), (2, .int x2)] := hl
  refine lv_iload_n hx hb dX1_swap_0 rfl (lv_at hl 1 rfl) ?_
  refine pz_calls M C iX1_83 mtX1_bad ⟨Nat.le_of_ble_eq_true rfl, Nat.le_of_ble_eq_true rfl⟩ ⟨rfl, rfl⟩ rfl hl.1 rfl (Nat.le_of_ble_eq_true rfl) dX1_swap_1 ⟨Nat.le_of_ble_eq_true rfl, Nat.le_of_ble_eq_true rfl⟩ (fun r H locs hp C => ?_)
  rcases hp with ⟨⟨k1, hk1, rfl⟩, rfl⟩ | ⟨hn1, rfl⟩
  · refine lv_if_ne (tgt := 14) hx hb dX1_swap_4 (by decide) (fun h4 => ?_) (fun h4 => ?_)
    · exact absurd rfl h4
    · refine lv_iload_n hx hb dX1_swap_7 rfl (lv_at hl 2 rfl) ?_
      refine pz_calls M C iX1_83 mtX1_bad ⟨Nat.le_of_ble_eq_true rfl, Nat.le_of_ble_eq_true rfl⟩ ⟨rfl, rfl⟩ rfl hl.1 rfl (Nat.le_of_ble_eq_true rfl) dX1_swap_8 ⟨Nat.le_of_ble_eq_true rfl, Nat.le_of_ble_eq_true rfl⟩ (fun r H locs hp C => ?_)
      rcases hp with ⟨⟨k2, hk2, rfl⟩, rfl⟩ | ⟨hn2, rfl⟩
      · refine lv_if_eq (tgt := 16) hx hb dX1_swap_11 (by decide) (fun h11 => ?_) (fun h11 => ?_)
        · have m3 := mc_3 (μ := μ) hk1 hk2
          refine lv_aload_n hx hb dX1_swap_16 rfl (lv_at hl 0 rfl) ?_
          refine pm_g_fo M C dX1_swap_17 ?_
          refine lv_iload_n hx hb dX1_swap_20 rfl (lv_at hl 1 rfl) ?_
          refine pm_l_fo M C (by omega) dX1_swap_21 ?_
          refine lv_istore_n (lv' := [(3, _), (0, _), (1, _), (2, _)]) hx hb dX1_swap_22 rfl hl (by decide) rfl (fun ls hl => ?_)
          refine lv_aload_n hx hb dX1_swap_23 rfl (lv_at hl 1 rfl) ?_
          refine pm_g_wh M C dX1_swap_24 ?_
          refine lv_iload_n hx hb dX1_swap_27 rfl (lv_at hl 2 rfl) ?_
          refine pm_l_wh M C (by omega) dX1_swap_28 ?_
          refine lv_istore (lv' := [(4, _), (3, _), (0, _), (1, _), (2, _)]) hx hb dX1_swap_29 hl (by decide) rfl (fun ls hl => ?_)
          refine lv_aload_n hx hb dX1_swap_31 rfl (lv_at hl 2 rfl) ?_
          refine pm_g_fo M C dX1_swap_32 ?_
          refine lv_iload_n hx hb dX1_swap_35 rfl (lv_at hl 3 rfl) ?_
          refine lv_aload_n hx hb dX1_swap_36 rfl (lv_at hl 2 rfl) ?_
          refine pm_g_fo M C dX1_swap_37 ?_
          refine lv_iload_n hx hb dX1_swap_40 rfl (lv_at hl 4 rfl) ?_
          refine pm_l_fo M C (by omega) dX1_swap_41 ?_
          refine pm_s_fo M C (by omega) dX1_swap_42 (fun H locs C => ?_)
          refine lv_aload_n hx hb dX1_swap_43 rfl (lv_at hl 2 rfl) ?_
          refine pm_g_wh M C dX1_swap_44 ?_
          refine lv_iload_n hx hb dX1_swap_47 rfl (lv_at hl 3 rfl) ?_
          refine lv_aload_n hx hb dX1_swap_48 rfl (lv_at hl 2 rfl) ?_
          refine pm_g_wh M C dX1_swap_49 ?_
          refine lv_iload_n hx hb dX1_swap_52 rfl (lv_at hl 4 rfl) ?_
          refine pm_l_wh M C (by omega) dX1_swap_53 ?_
          refine pm_s_wh M C (by omega) dX1_swap_54 (fun H locs C => ?_)
          refine lv_aload_n hx hb dX1_swap_55 rfl (lv_at hl 2 rfl) ?_
          refine pm_g_fo M C dX1_swap_56 ?_
          refine lv_iload_n hx hb dX1_swap_59 rfl (lv_at hl 4 rfl) ?_
          refine lv_iload_n hx hb dX1_swap_60 rfl (lv_at hl 1 rfl) ?_
          refine pm_s_fo M C (by omega) dX1_swap_61 (fun H locs C => ?_)
          refine lv_aload_n hx hb dX1_swap_62 rfl (lv_at hl 2 rfl) ?_
          refine pm_g_wh M C dX1_swap_63 ?_
          refine lv_iload_n hx hb dX1_swap_66 rfl (lv_at hl 4 rfl) ?_
          refine lv_iload hx hb dX1_swap_67 (lv_at hl 0 rfl) ?_
          refine pm_s_wh M C (by omega) dX1_swap_69 (fun H locs C => ?_)
          refine lv_iconst (v := 0) hx hb dX1_swap_70 (by decide +kernel) ?_
          exact ret _ _ _ _ _ _ C dX1_swap_71 rfl ⟨m3.1.symm, by rw [m3.2.2.1]; exact Rl_sw R hk1 hk2⟩
        · exact absurd rfl h11
      · refine lv_if_eq (tgt := 16) hx hb dX1_swap_11 (by decide) (fun h11 => ?_) (fun h11 => ?_)
        · exact absurd h11 (by decide +kernel)
        · refine lv_iconst (v := (-1)) hx hb dX1_swap_14 (by decide +kernel) ?_
          exact ret _ _ _ _ _ _ C dX1_swap_15 rfl ⟨(mc_2 (μ := μ) hk1 hn2).1.symm, by rw [(mc_2 hk1 hn2).2.2.1]; exact R⟩
  · refine lv_if_ne (tgt := 14) hx hb dX1_swap_4 (by decide) (fun h4 => ?_) (fun h4 => ?_)
    · refine lv_iconst (v := (-1)) hx hb dX1_swap_14 (by decide +kernel) ?_
      exact ret _ _ _ _ _ _ C dX1_swap_15 rfl ⟨(mc_1 (μ := μ) hn1).1.symm, by rw [(mc_1 hn1).2.2.1]; exact R⟩
    · exact absurd h4 (by decide +kernel)
set_option maxHeartbeats 4000000 in
set_option maxRecDepth 100000 in
/-- release(p) as the model has it -/
theorem mtX1_release {l : Launch} {g : pz_G} {ad : Nat → Nat} {σ : pm_S} {μ : md_S} {x1 : Int32} (R : pm_Rl σ μ) : pz_Mi l yX1_release cX1_release 2 .int ({ frames := 6, cells := 0, slots := 0, locals := 144 }) (pm_W g ad) g σ [.ref (ad 0), .int x1] (fun r u => r = ml_r μ x1 ∧ pm_Rl u (ml_s μ x1)) := by
  obtain ⟨fr, hd, sc, fo, wh, to, ho, me, ru, rl, fv, sv, au, ai⟩ := σ
  have I0 : pm_I fr hd sc fo wh ho rl ru au := R.1
  refine pz_enterI (by decide) (Nat.le_of_ble_eq_true rfl) ?_
  intro p e s m args below meth c A Q M hA ret C ls hl
  have hx := M.1
  have hb := M.2.1
  have hl : lv_has ls 2 [(0, .ref (ad 0)), (1, .int x1)] := hl
  refine lv_iload_n hx hb dX1_release_0 rfl (lv_at hl 1 rfl) ?_
  refine pz_calls M C iX1_83 mtX1_bad ⟨Nat.le_of_ble_eq_true rfl, Nat.le_of_ble_eq_true rfl⟩ ⟨rfl, rfl⟩ rfl hl.1 rfl (Nat.le_of_ble_eq_true rfl) dX1_release_1 ⟨Nat.le_of_ble_eq_true rfl, Nat.le_of_ble_eq_true rfl⟩ (fun r H locs hp C => ?_)
  rcases hp with ⟨⟨k1, hk1, rfl⟩, rfl⟩ | ⟨hn1, rfl⟩
  · refine lv_if_eq (tgt := 9) hx hb dX1_release_4 (by decide) (fun h4 => ?_) (fun h4 => ?_)
    · have m2 := ml_2 (μ := μ) hk1
      have i2 := I0.2.1 k1 hk1
      refine lv_aload_n hx hb dX1_release_9 rfl (lv_at hl 0 rfl) ?_
      refine pm_g_fo M C dX1_release_10 ?_
      refine lv_iload_n hx hb dX1_release_13 rfl (lv_at hl 1 rfl) ?_
      refine pm_l_fo M C (by omega) dX1_release_14 ?_
      refine pz_zne (tgt := 21) M (by omega) dX1_release_15 (by decide) (fun h15 => ?_) (fun h15 => ?_)
      · have nr : ¬ μ.2 k1 = true := fun h => h15 ((R.2 k1 hk1).1.mpr h)
        refine lv_aload_n hx hb dX1_release_21 rfl (lv_at hl 0 rfl) ?_
        refine lv_iload_n hx hb dX1_release_22 rfl (lv_at hl 1 rfl) ?_
        refine pz_callv M hA C rfl rfl iX1_52 (mtX1_letGo (ps_ok_I R.1 hk1) (lg_pre R.1 hk1)) ⟨Nat.le_of_ble_eq_true rfl, Nat.le_of_ble_eq_true rfl⟩ ⟨rfl, rfl⟩ rfl hl.1 rfl (Nat.le_of_ble_eq_true rfl) dX1_release_23 ⟨Nat.le_of_ble_eq_true rfl, Nat.le_of_ble_eq_true rfl⟩ (fun u H locs hp C => ?_)
        have L := lg_I (to := to) (me := me) (fv := fv) (sv := sv) (ai := ai) I0 hk1
        rw [← hp] at L
        refine lv_iconst (v := 0) hx hb dX1_release_26 (by decide +kernel) ?_
        exact ret _ _ _ _ _ _ C dX1_release_27 rfl ⟨by rw [m2.1, if_neg nr], by rw [m2.2.1, if_neg nr]; exact Rl_Lg R L (fun w hw => by unfold md_fl; rw [if_pos (by omega)]) (fun i hi => by unfold md_fl; rw [if_neg hi])⟩
      · refine lv_bipush (v := (-3)) hx hb dX1_release_18 (by decide +kernel) ?_
        exact ret _ _ _ _ _ _ C dX1_release_20 rfl ⟨by rw [m2.1, if_pos ((R.2 k1 hk1).1.mp h15)], by rw [m2.2.1, if_pos ((R.2 k1 hk1).1.mp h15)]; exact R⟩
    · exact absurd rfl h4
  · refine lv_if_eq (tgt := 9) hx hb dX1_release_4 (by decide) (fun h4 => ?_) (fun h4 => ?_)
    · exact absurd h4 (by decide +kernel)
    · refine lv_iconst (v := (-1)) hx hb dX1_release_7 (by decide +kernel) ?_
      exact ret _ _ _ _ _ _ C dX1_release_8 rfl ⟨(ml_1 hn1).1.symm, by rw [(ml_1 hn1).2.1]; exact R⟩
set_option maxHeartbeats 4000000 in
set_option maxRecDepth 100000 in
/-- read(p, word) as the model has it -/
theorem mtX1_read {l : Launch} {g : pz_G} {ad : Nat → Nat} {σ : pm_S} {μ : md_S} {x1 x2 : Int32} (R : pm_Rl σ μ) : pz_Mi l yX1_read cX1_read 3 .int ({ frames := 6, cells := 0, slots := 0, locals := 144 }) (pm_W g ad) g σ [.ref (ad 0), .int x1, .int x2] (fun r u => r = mw_r μ x1 x2 ∧ pm_Rl u μ) := by
  obtain ⟨fr, hd, sc, fo, wh, to, ho, me, ru, rl, fv, sv, au, ai⟩ := σ
  have I0 : pm_I fr hd sc fo wh ho rl ru au := R.1
  refine pz_enterI (by decide) (Nat.le_of_ble_eq_true rfl) ?_
  intro p e s m args below meth c A Q M hA ret C ls hl
  have hx := M.1
  have hb := M.2.1
  have hl : lv_has ls 3 [(0, .ref (ad 0)), (1, .int x1), (2, .int x2)] := hl
  refine lv_iload_n hx hb dX1_read_0 rfl (lv_at hl 1 rfl) ?_
  refine pz_calls M C iX1_83 mtX1_bad ⟨Nat.le_of_ble_eq_true rfl, Nat.le_of_ble_eq_true rfl⟩ ⟨rfl, rfl⟩ rfl hl.1 rfl (Nat.le_of_ble_eq_true rfl) dX1_read_1 ⟨Nat.le_of_ble_eq_true rfl, Nat.le_of_ble_eq_true rfl⟩ (fun r H locs hp C => ?_)
  rcases hp with ⟨⟨k1, hk1, rfl⟩, rfl⟩ | ⟨hn1, rfl⟩
  · refine lv_if_eq (tgt := 9) hx hb dX1_read_4 (by decide) (fun h4 => ?_) (fun h4 => ?_)
    · have i2 := I0.2.1 k1 hk1
      refine lv_iload_n hx hb dX1_read_9 rfl (lv_at hl 2 rfl) ?_
      refine lv_if_lt (tgt := 18) hx hb dX1_read_10 (by decide) (fun h10 => ?_) (fun h10 => ?_)
      · refine lv_bipush (v := (-2)) hx hb dX1_read_18 (by decide +kernel) ?_
        exact ret _ _ _ _ _ _ C dX1_read_20 rfl ⟨(mw_r2 hk1 (pz_no1 (by decide) h10)).symm, R⟩
      · refine lv_iload_n hx hb dX1_read_13 rfl (lv_at hl 2 rfl) ?_
        refine lv_iconst (v := nI 4) hx hb dX1_read_14 (by decide +kernel) ?_
        refine lv_icmp_lt (tgt := 21) hx hb dX1_read_15 (by decide) (fun h15 => ?_) (fun h15 => ?_)
        · obtain ⟨j, hj, rfl⟩ := pz_in_of (by decide) h10 h15
          refine lv_aload_n hx hb dX1_read_21 rfl (lv_at hl 0 rfl) ?_
          refine pm_g_fo M C dX1_read_22 ?_
          refine lv_iload_n hx hb dX1_read_25 rfl (lv_at hl 1 rfl) ?_
          refine pm_l_fo M C (by omega) dX1_read_26 ?_
          refine pz_zne (tgt := 32) M (by omega) dX1_read_27 (by decide) (fun h27 => ?_) (fun h27 => ?_)
          · refine lv_aload_n hx hb dX1_read_32 rfl (lv_at hl 0 rfl) ?_
            refine lv_iload_n hx hb dX1_read_33 rfl (lv_at hl 1 rfl) ?_
            refine lv_iload_n hx hb dX1_read_34 rfl (lv_at hl 1 rfl) ?_
            refine pz_callv M hA C rfl rfl iX1_80 (mtX1_bringIn R.1 hk1 hk1) ⟨Nat.le_of_ble_eq_true rfl, Nat.le_of_ble_eq_true rfl⟩ ⟨rfl, rfl⟩ rfl hl.1 rfl (Nat.le_of_ble_eq_true rfl) dX1_read_35 ⟨Nat.le_of_ble_eq_true rfl, Nat.le_of_ble_eq_true rfl⟩ (fun u H locs hp C => ?_)
            obtain ⟨fr1, hd1, sc1, fo1, wh1, to1, ho1, me1, ru1, rl1, fv1, sv1, au1, ai1⟩ := u
            have B := hp
            obtain ⟨I1, e1, -, -⟩ := hp
            have I1 : pm_I fr1 hd1 sc1 fo1 wh1 ho1 rl1 ru1 au1 := I1
            have e1 : fo1 k1 = 1 := e1
            obtain ⟨g1, g2, g3⟩ := ps_ho1 I1 hk1 e1
            refine lv_aload_n hx hb dX1_read_38 rfl (lv_at hl 0 rfl) ?_
            refine pm_g_me M C dX1_read_39 ?_
            refine lv_aload_n hx hb dX1_read_42 rfl (lv_at hl 0 rfl) ?_
            refine pm_g_wh M C dX1_read_43 ?_
            refine lv_iload_n hx hb dX1_read_46 rfl (lv_at hl 1 rfl) ?_
            refine pm_l_wh M C (by omega) dX1_read_47 ?_
            refine lv_iconst (v := nI 4) hx hb dX1_read_48 (by decide +kernel) ?_
            refine pz_imulN M dX1_read_49 ?_
            refine lv_iload_n hx hb dX1_read_50 rfl (lv_at hl 2 rfl) ?_
            refine pz_iaddN M dX1_read_51 ?_
            refine pm_l_me M C (by omega) dX1_read_52 ?_
            exact ret _ _ _ _ _ _ C dX1_read_53 rfl ⟨by rw [mw_r3 hk1 hj]; exact wr_1 R B hk1 hj, Rl_Bi R B h27⟩
          · refine lv_iconst (v := 0) hx hb dX1_read_30 (by decide +kernel) ?_
            exact ret _ _ _ _ _ _ C dX1_read_31 rfl ⟨by rw [mw_r3 hk1 hj, ← (R.2 k1 hk1).2 j hj]; exact (ps_w0 (σ := (fr, hd, sc, fo, wh, to, ho, me, ru, rl, fv, sv, au, ai)) h27).symm, R⟩
        · refine lv_bipush (v := (-2)) hx hb dX1_read_18 (by decide +kernel) ?_
          exact ret _ _ _ _ _ _ C dX1_read_20 rfl ⟨(mw_r2 hk1 (pz_no2 (by decide) h15)).symm, R⟩
    · exact absurd rfl h4
  · refine lv_if_eq (tgt := 9) hx hb dX1_read_4 (by decide) (fun h4 => ?_) (fun h4 => ?_)
    · exact absurd h4 (by decide +kernel)
    · refine lv_iconst (v := (-1)) hx hb dX1_read_7 (by decide +kernel) ?_
      exact ret _ _ _ _ _ _ C dX1_read_8 rfl ⟨(mw_r1 hn1).symm, R⟩
set_option maxHeartbeats 4000000 in
set_option maxRecDepth 100000 in
/-- held(p) as the model has it -/
theorem mtX1_held {l : Launch} {g : pz_G} {ad : Nat → Nat} {σ : pm_S} {μ : md_S} {x1 : Int32} (R : pm_Rl σ μ) : pz_Mi l yX1_held cX1_held 2 .boolean ({ frames := 6, cells := 0, slots := 0, locals := 144 }) (pm_W g ad) g σ [.ref (ad 0), .int x1] (fun r u => r = pz_b (mh_r μ x1) ∧ u = σ) := by
  obtain ⟨fr, hd, sc, fo, wh, to, ho, me, ru, rl, fv, sv, au, ai⟩ := σ
  have I0 : pm_I fr hd sc fo wh ho rl ru au := R.1
  refine pz_enterI (by decide) (Nat.le_of_ble_eq_true rfl) ?_
  intro p e s m args below meth c A Q M hA ret C ls hl
  have hx := M.1
  have hb := M.2.1
  have hl : lv_has ls 2 [(0, .ref (ad 0)), (1, .int x1)] := hl
  refine lv_iload_n hx hb dX1_held_0 rfl (lv_at hl 1 rfl) ?_
  refine pz_calls M C iX1_83 mtX1_bad ⟨Nat.le_of_ble_eq_true rfl, Nat.le_of_ble_eq_true rfl⟩ ⟨rfl, rfl⟩ rfl hl.1 rfl (Nat.le_of_ble_eq_true rfl) dX1_held_1 ⟨Nat.le_of_ble_eq_true rfl, Nat.le_of_ble_eq_true rfl⟩ (fun r H locs hp C => ?_)
  rcases hp with ⟨⟨k1, hk1, rfl⟩, rfl⟩ | ⟨hn1, rfl⟩
  · refine lv_if_ne (tgt := 20) hx hb dX1_held_4 (by decide) (fun h4 => ?_) (fun h4 => ?_)
    · exact absurd rfl h4
    · have m2 := (ml_2 (μ := μ) hk1).2.2
      have i2 := I0.2.1 k1 hk1
      refine lv_aload_n hx hb dX1_held_7 rfl (lv_at hl 0 rfl) ?_
      refine pm_g_fo M C dX1_held_8 ?_
      refine lv_iload_n hx hb dX1_held_11 rfl (lv_at hl 1 rfl) ?_
      refine pm_l_fo M C (by omega) dX1_held_12 ?_
      refine pz_zeq (tgt := 20) M (by omega) dX1_held_13 (by decide) (fun h13 => ?_) (fun h13 => ?_)
      · refine lv_iconst (v := 0) hx hb dX1_held_20 (by decide +kernel) ?_
        exact ret _ _ _ _ _ _ C dX1_held_21 rfl ⟨by rw [m2, (R.2 k1 hk1).1.mp h13]; rfl, rfl⟩
      · refine lv_iconst (v := 1) hx hb dX1_held_16 (by decide +kernel) ?_
        refine lv_goto (tgt := 21) hx hb dX1_held_17 (by decide) ?_
        exact ret _ _ _ _ _ _ C dX1_held_21 rfl ⟨by rw [m2, Rl_fn R hk1 h13]; rfl, rfl⟩
  · refine lv_if_ne (tgt := 20) hx hb dX1_held_4 (by decide) (fun h4 => ?_) (fun h4 => ?_)
    · refine lv_iconst (v := 0) hx hb dX1_held_20 (by decide +kernel) ?_
      exact ret _ _ _ _ _ _ C dX1_held_21 rfl ⟨by rw [(ml_1 hn1).2.2]; rfl, rfl⟩
    · exact absurd h4 (by decide +kernel)
end
section
/-! PageMerger: the questions -/
set_option maxRecDepth 100000
theorem b_not {b : Bool} (h : b = true → False) : b = false := by
  cases b with
  | false => rfl
  | true => exact (h rfl).elim
theorem ag_s0 {μ : md_S} {p i : Nat} (h : md_ag μ p i = false) (h2 : μ.2 i = true ∨ md_sm μ.1 i p = false) : md_ag μ p (i + 1) = false := by
  unfold md_ag
  rw [h]
  rcases h2 with h2 | h2
  · rw [h2]; rfl
  · rw [h2]; cases μ.2 i <;> rfl
theorem ag_s1 {μ : md_S} {p i : Nat} (h1 : μ.2 i = false) (h2 : md_sm μ.1 i p = true) : md_ag μ p (i + 1) = true := by
  unfold md_ag
  rw [h1, h2]
  cases md_ag μ p i <;> rfl
theorem ct_s0 {P : Nat → Bool} {i n : Nat} (e : n = md_ct P i) (h : P i = false) : n = md_ct P (i + 1) := by
  unfold md_ct
  rw [h, ← e]
  rfl
theorem ct_s1 {P : Nat → Bool} {i n : Nat} (e : n = md_ct P i) (h : P i = true) : n + 1 = md_ct P (i + 1) := by
  unfold md_ct
  rw [h, ← e]
  rfl
theorem sg_s {f : Nat → Int32} {a n m : Nat} {x y : Int32} (e : x = md_sg f a n) (h : y = f (a + n)) (hm : m = n + 1) : x + y = md_sg f a m := by
  rw [hm, e, h]
  rfl
theorem mu_1 {μ : md_S} {x : Int32} (h : ¬ ∃ k, k < 3 ∧ x = nI k) : mu_r μ x = 0 := by simp only [mu_r, pg_none h]
theorem mu_2 {μ : md_S} {g : Nat} (h : g < 3) : mu_r μ (nI g) = md_sg μ.1 (g * 32) 32 := by simp only [mu_r, pg_some h (show 3 ≤ 2 ^ 31 by decide)]
theorem pz_in_le {n : Nat} {x : Int32} (hn : n < 2 ^ 31) (h : ¬ x < 0) (h2 : x ≤ nI n) : ∃ j, j < n + 1 ∧ x = nI j := by
  obtain ⟨j, hj, e⟩ := nI_of h
  subst e
  exact ⟨j, Nat.lt_succ_of_le ((nI_leI hj hn).mp h2), rfl⟩
theorem pz_no3 {n : Nat} {x : Int32} (hn : n < 2 ^ 31) (h : ¬ x ≤ nI n) : ¬ ∃ j, j < n + 1 ∧ x = nI j := by
  rintro ⟨j, hj, e⟩
  rw [e] at h
  exact h (nI_le (Nat.le_of_lt_succ hj) hn)
theorem Rl_pl {σ : pm_S} {μ : md_S} {p : Nat} (R : pm_Rl σ μ) (hp : p < 24) : (∀ w, w < 4 → ps_w σ p w = ps_w σ p 0) ↔ md_pl μ.1 p = true := by
  rw [pl_iff]
  constructor
  · intro h w hw
    rw [← (R.2 p hp).2 w hw, h w hw]
    exact (R.2 p hp).2 0 (by decide)
  · intro h w hw
    rw [(R.2 p hp).2 w hw, (R.2 p hp).2 0 (by decide)]
    exact h w hw
set_option maxHeartbeats 4000000 in
set_option maxRecDepth 100000 in
/-- equalPages(a, b): the words are the same -/
theorem mtX1_equalPages {l : Launch} {g : pz_G} {ad : Nat → Nat} {σ : pm_S} {μ : md_S} {a0 b0 : Nat} (R : pm_Rl σ μ) (ha0 : a0 < 24) (hb0 : b0 < 24) : pz_Mi l yX1_equalPages cX1_equalPages 6 .boolean ({ frames := 1, cells := 0, slots := 0, locals := 23 }) (pm_W g ad) g σ [.ref (ad 0), .int (nI a0), .int (nI b0)] (fun r u => u = σ ∧ r = pz_b (md_sm μ.1 a0 b0)) := by
  obtain ⟨fr, hd, sc, fo, wh, to, ho, me, ru, rl, fv, sv, au, ai⟩ := σ
  have I0 : pm_I fr hd sc fo wh ho rl ru au := R.1
  have ja := I0.2.1 a0 ha0
  have jb := I0.2.1 b0 hb0
  have y1 : (∀ w, w < 4 → ps_w (fr, hd, sc, fo, wh, to, ho, me, ru, rl, fv, sv, au, ai) a0 w = ps_w (fr, hd, sc, fo, wh, to, ho, me, ru, rl, fv, sv, au, ai) b0 w) → 1 = pz_b (md_sm μ.1 a0 b0) := fun h => by rw [(Rl_sm R ha0 hb0).mp h]; rfl
  have y0 : ∀ w, w < 4 → ¬ ps_w (fr, hd, sc, fo, wh, to, ho, me, ru, rl, fv, sv, au, ai) a0 w = ps_w (fr, hd, sc, fo, wh, to, ho, me, ru, rl, fv, sv, au, ai) b0 w → 0 = pz_b (md_sm μ.1 a0 b0) := fun w hw h => by rw [b_not (fun e => h ((Rl_sm R ha0 hb0).mpr e w hw))]; rfl
  refine pz_enterI (by decide) (Nat.le_of_ble_eq_true rfl) ?_
  intro p e s m args below meth c A Q M hA ret C ls hl
  have hx := M.1
  have hb := M.2.1
  have hl : lv_has ls 6 [(0, .ref (ad 0)), (1, .int (nI a0)), (2, .int (nI b0))] := hl
  have lp : ∀ (k i : Nat), i ≤ 4 → 5 ≤ i + k → (∀ v, v < i → ps_w (fr, hd, sc, fo, wh, to, ho, me, ru, rl, fv, sv, au, ai) a0 v = ps_w (fr, hd, sc, fo, wh, to, ho, me, ru, rl, fv, sv, au, ai) b0 v) → ∀ (H : Heap) (locs : List Loc), pz_C (pm_W g ad) g A s (fr, hd, sc, fo, wh, to, ho, me, ru, rl, fv, sv, au, ai) H locs → ∀ ls : Array Slot, lv_has ls 6 [(3, .int (nI i)), (0, .ref (ad 0)), (1, .int (nI a0)), (2, .int (nI b0))] → W p l e ({ frames := 1, cells := 0, slots := 0, locals := 23 }) s m args below meth c H locs 0 0 Q (F0 m 39 ls []) := by
    intro k
    induction k with
    | zero => intro i _ h; omega
    | succ k ih =>
      intro i hi hk na H locs C ls hl
      refine lv_iload_n hx hb dX1_equalPages_39 rfl (lv_at hl 0 rfl) ?_
      refine lv_iconst (v := nI 4) hx hb dX1_equalPages_40 (by decide +kernel) ?_
      refine pz_cge (tgt := 75) M (by omega) (by omega) dX1_equalPages_41 (by decide) (fun h41 => ?_) (fun h41 => ?_)
      · refine lv_iconst (v := 1) hx hb dX1_equalPages_75 (by decide +kernel) ?_
        exact ret _ _ _ _ _ _ C dX1_equalPages_76 rfl ⟨rfl, y1 (fun v hv => na v (by omega))⟩
      · refine lv_aload_n hx hb dX1_equalPages_44 rfl (lv_at hl 1 rfl) ?_
        refine lv_iload_n hx hb dX1_equalPages_45 rfl (lv_at hl 2 rfl) ?_
        refine lv_iload_n hx hb dX1_equalPages_46 rfl (lv_at hl 0 rfl) ?_
        refine pz_calli M hA C rfl rfl iX1_48 (mtX1_peek (ps_ok_I R.1 ha0) (by omega)) ⟨Nat.le_of_ble_eq_true rfl, Nat.le_of_ble_eq_true rfl⟩ ⟨rfl, rfl⟩ rfl hl.1 rfl (Nat.le_of_ble_eq_true rfl) dX1_equalPages_47 ⟨Nat.le_of_ble_eq_true rfl, Nat.le_of_ble_eq_true rfl⟩ (fun r u H locs hp C => ?_)
        obtain ⟨rfl, rfl⟩ := hp
        refine lv_istore (lv' := [(4, _), (3, _), (0, _), (1, _), (2, _)]) hx hb dX1_equalPages_50 hl (by decide) rfl (fun ls hl => ?_)
        refine lv_aload_n hx hb dX1_equalPages_52 rfl (lv_at hl 2 rfl) ?_
        refine lv_iload_n hx hb dX1_equalPages_53 rfl (lv_at hl 4 rfl) ?_
        refine lv_iload_n hx hb dX1_equalPages_54 rfl (lv_at hl 1 rfl) ?_
        refine pz_calli M hA C rfl rfl iX1_48 (mtX1_peek (ps_ok_I R.1 hb0) (by omega)) ⟨Nat.le_of_ble_eq_true rfl, Nat.le_of_ble_eq_true rfl⟩ ⟨rfl, rfl⟩ rfl hl.1 rfl (Nat.le_of_ble_eq_true rfl) dX1_equalPages_55 ⟨Nat.le_of_ble_eq_true rfl, Nat.le_of_ble_eq_true rfl⟩ (fun r u H locs hp C => ?_)
        obtain ⟨rfl, rfl⟩ := hp
        refine lv_istore (lv' := [(5, _), (4, _), (3, _), (0, _), (1, _), (2, _)]) hx hb dX1_equalPages_58 hl (by decide) rfl (fun ls hl => ?_)
        refine lv_iload hx hb dX1_equalPages_60 (lv_at hl 1 rfl) ?_
        refine lv_iload hx hb dX1_equalPages_62 (lv_at hl 0 rfl) ?_
        refine lv_icmp_eq (tgt := 69) hx hb dX1_equalPages_64 (by decide) (fun h64 => ?_) (fun h64 => ?_)
        · refine pz_iinc1 (k := 2) (lv' := [(3, _), (5, _), (4, _), (0, _), (1, _), (2, _)]) M dX1_equalPages_69 hl rfl (by decide) rfl (fun ls hl => ?_)
          refine lv_goto (tgt := 39) hx hb dX1_equalPages_72 (by decide) ?_
          exact ih (i + 1) (by omega) (by omega) (fun x a => by
    rcases Nat.lt_or_ge x i with q | q
    · exact na x q
    · rw [show x = i by omega]; exact h64) _ _ C _ (lv_sub hl [0, 3, 4, 5] rfl)
        · refine lv_iconst (v := 0) hx hb dX1_equalPages_67 (by decide +kernel) ?_
          exact ret _ _ _ _ _ _ C dX1_equalPages_68 rfl ⟨rfl, y0 i (by omega) h64⟩
  have j37 : ∀ (H : Heap) (locs : List Loc), pz_C (pm_W g ad) g A s (fr, hd, sc, fo, wh, to, ho, me, ru, rl, fv, sv, au, ai) H locs → ∀ ls : Array Slot, lv_has ls 6 [(0, .ref (ad 0)), (1, .int (nI a0)), (2, .int (nI b0))] → W p l e ({ frames := 1, cells := 0, slots := 0, locals := 23 }) s m args below meth c H locs 0 0 Q (F0 m 37 ls []) := by
    intro H locs C ls hl
    refine lv_iconst (v := nI 0) hx hb dX1_equalPages_37 (by decide +kernel) ?_
    refine lv_istore_n (lv' := [(3, _), (0, _), (1, _), (2, _)]) hx hb dX1_equalPages_38 rfl hl (by decide) rfl (fun ls hl => ?_)
    exact lp 5 0 (by omega) (by omega) (fun v h => absurd h (by omega)) _ _ C _ (lv_sub hl [0, 1, 2, 3] rfl)
  refine lv_aload_n hx hb dX1_equalPages_0 rfl (lv_at hl 0 rfl) ?_
  refine pm_g_fo M C dX1_equalPages_1 ?_
  refine lv_iload_n hx hb dX1_equalPages_4 rfl (lv_at hl 1 rfl) ?_
  refine pm_l_fo M C (by omega) dX1_equalPages_5 ?_
  refine lv_iconst (v := nI 1) hx hb dX1_equalPages_6 (by decide +kernel) ?_
  refine pz_cne (tgt := 37) M (by omega) (by omega) dX1_equalPages_7 (by decide) (fun h7 => ?_) (fun h7 => ?_)
  · exact j37 _ _ C _ hl
  · refine lv_aload_n hx hb dX1_equalPages_10 rfl (lv_at hl 0 rfl) ?_
    refine pm_g_fo M C dX1_equalPages_11 ?_
    refine lv_iload_n hx hb dX1_equalPages_14 rfl (lv_at hl 2 rfl) ?_
    refine pm_l_fo M C (by omega) dX1_equalPages_15 ?_
    refine lv_iconst (v := nI 1) hx hb dX1_equalPages_16 (by decide +kernel) ?_
    refine pz_cne (tgt := 37) M (by omega) (by omega) dX1_equalPages_17 (by decide) (fun h17 => ?_) (fun h17 => ?_)
    · exact j37 _ _ C _ hl
    · refine lv_aload_n hx hb dX1_equalPages_20 rfl (lv_at hl 0 rfl) ?_
      refine pm_g_wh M C dX1_equalPages_21 ?_
      refine lv_iload_n hx hb dX1_equalPages_24 rfl (lv_at hl 1 rfl) ?_
      refine pm_l_wh M C (by omega) dX1_equalPages_25 ?_
      refine lv_aload_n hx hb dX1_equalPages_26 rfl (lv_at hl 0 rfl) ?_
      refine pm_g_wh M C dX1_equalPages_27 ?_
      refine lv_iload_n hx hb dX1_equalPages_30 rfl (lv_at hl 2 rfl) ?_
      refine pm_l_wh M C (by omega) dX1_equalPages_31 ?_
      refine pz_cne (tgt := 37) M (by omega) (by omega) dX1_equalPages_32 (by decide) (fun h32 => ?_) (fun h32 => ?_)
      · exact j37 _ _ C _ hl
      · refine lv_iconst (v := 1) hx hb dX1_equalPages_35 (by decide +kernel) ?_
        exact ret _ _ _ _ _ _ C dX1_equalPages_36 rfl ⟨rfl, y1 (fun v hv => (ps_w1 (σ := (fr, hd, sc, fo, wh, to, ho, me, ru, rl, fv, sv, au, ai)) h7).trans ((show me (wh a0 * 4 + v) = me (wh b0 * 4 + v) by rw [h32]).trans (ps_w1 (σ := (fr, hd, sc, fo, wh, to, ho, me, ru, rl, fv, sv, au, ai)) h17).symm))⟩
set_option maxHeartbeats 4000000 in
set_option maxRecDepth 100000 in
/-- same(a, b) as the model has it -/
theorem mtX1_same {l : Launch} {g : pz_G} {ad : Nat → Nat} {σ : pm_S} {μ : md_S} {x1 x2 : Int32} (R : pm_Rl σ μ) : pz_Mi l yX1_same cX1_same 3 .boolean ({ frames := 6, cells := 0, slots := 0, locals := 144 }) (pm_W g ad) g σ [.ref (ad 0), .int x1, .int x2] (fun r u => r = pz_b (ms_r μ x1 x2) ∧ u = σ) := by
  obtain ⟨fr, hd, sc, fo, wh, to, ho, me, ru, rl, fv, sv, au, ai⟩ := σ
  have I0 : pm_I fr hd sc fo wh ho rl ru au := R.1
  refine pz_enterI (by decide) (Nat.le_of_ble_eq_true rfl) ?_
  intro p e s m args below meth c A Q M hA ret C ls hl
  have hx := M.1
  have hb := M.2.1
  have hl : lv_has ls 3 [(0, .ref (ad 0)), (1, .int x1), (2, .int x2)] := hl
  refine lv_iload_n hx hb dX1_same_0 rfl (lv_at hl 1 rfl) ?_
  refine pz_calls M C iX1_83 mtX1_bad ⟨Nat.le_of_ble_eq_true rfl, Nat.le_of_ble_eq_true rfl⟩ ⟨rfl, rfl⟩ rfl hl.1 rfl (Nat.le_of_ble_eq_true rfl) dX1_same_1 ⟨Nat.le_of_ble_eq_true rfl, Nat.le_of_ble_eq_true rfl⟩ (fun r H locs hp C => ?_)
  rcases hp with ⟨⟨k1, hk1, rfl⟩, rfl⟩ | ⟨hn1, rfl⟩
  · refine lv_if_ne (tgt := 14) hx hb dX1_same_4 (by decide) (fun h4 => ?_) (fun h4 => ?_)
    · exact absurd rfl h4
    · refine lv_iload_n hx hb dX1_same_7 rfl (lv_at hl 2 rfl) ?_
      refine pz_calls M C iX1_83 mtX1_bad ⟨Nat.le_of_ble_eq_true rfl, Nat.le_of_ble_eq_true rfl⟩ ⟨rfl, rfl⟩ rfl hl.1 rfl (Nat.le_of_ble_eq_true rfl) dX1_same_8 ⟨Nat.le_of_ble_eq_true rfl, Nat.le_of_ble_eq_true rfl⟩ (fun r H locs hp C => ?_)
      rcases hp with ⟨⟨k2, hk2, rfl⟩, rfl⟩ | ⟨hn2, rfl⟩
      · refine lv_if_eq (tgt := 16) hx hb dX1_same_11 (by decide) (fun h11 => ?_) (fun h11 => ?_)
        · refine lv_aload_n hx hb dX1_same_16 rfl (lv_at hl 0 rfl) ?_
          refine lv_iload_n hx hb dX1_same_17 rfl (lv_at hl 1 rfl) ?_
          refine lv_iload_n hx hb dX1_same_18 rfl (lv_at hl 2 rfl) ?_
          refine pz_calli M hA C rfl rfl iX1_107 (mtX1_equalPages R hk1 hk2) ⟨Nat.le_of_ble_eq_true rfl, Nat.le_of_ble_eq_true rfl⟩ ⟨rfl, rfl⟩ rfl hl.1 rfl (Nat.le_of_ble_eq_true rfl) dX1_same_19 ⟨Nat.le_of_ble_eq_true rfl, Nat.le_of_ble_eq_true rfl⟩ (fun r u H locs hp C => ?_)
          obtain ⟨rfl, rfl⟩ := hp
          exact ret _ _ _ _ _ _ C dX1_same_22 (pz_narZ _) ⟨by rw [(mc_3 hk1 hk2).2.2.2], rfl⟩
        · exact absurd rfl h11
      · refine lv_if_eq (tgt := 16) hx hb dX1_same_11 (by decide) (fun h11 => ?_) (fun h11 => ?_)
        · exact absurd h11 (by decide +kernel)
        · refine lv_iconst (v := 0) hx hb dX1_same_14 (by decide +kernel) ?_
          exact ret _ _ _ _ _ _ C dX1_same_15 rfl ⟨by rw [(mc_2 hk1 hn2).2.2.2]; rfl, rfl⟩
  · refine lv_if_ne (tgt := 14) hx hb dX1_same_4 (by decide) (fun h4 => ?_) (fun h4 => ?_)
    · refine lv_iconst (v := 0) hx hb dX1_same_14 (by decide +kernel) ?_
      exact ret _ _ _ _ _ _ C dX1_same_15 rfl ⟨by rw [(mc_1 hn1).2.2.2]; rfl, rfl⟩
    · exact absurd h4 (by decide +kernel)
set_option maxHeartbeats 4000000 in
set_option maxRecDepth 100000 in
/-- repeats(p): a held page with a smaller number has the same words -/
theorem mtX1_repeats {l : Launch} {g : pz_G} {ad : Nat → Nat} {σ : pm_S} {μ : md_S} {p0 : Nat} (R : pm_Rl σ μ) (hp0 : p0 < 24) : pz_Mi l yX1_repeats cX1_repeats 4 .boolean ({ frames := 2, cells := 0, slots := 0, locals := 48 }) (pm_W g ad) g σ [.ref (ad 0), .int (nI p0)] (fun r u => u = σ ∧ r = pz_b (md_ag μ p0 p0)) := by
  obtain ⟨fr, hd, sc, fo, wh, to, ho, me, ru, rl, fv, sv, au, ai⟩ := σ
  have I0 : pm_I fr hd sc fo wh ho rl ru au := R.1
  refine pz_enterI (by decide) (Nat.le_of_ble_eq_true rfl) ?_
  intro p e s m args below meth c A Q M hA ret C ls hl
  have hx := M.1
  have hb := M.2.1
  have hl : lv_has ls 4 [(0, .ref (ad 0)), (1, .int (nI p0))] := hl
  have lp : ∀ (k i : Nat), i ≤ p0 → p0 + 1 ≤ i + k → md_ag μ p0 i = false → ∀ (H : Heap) (locs : List Loc), pz_C (pm_W g ad) g A s (fr, hd, sc, fo, wh, to, ho, me, ru, rl, fv, sv, au, ai) H locs → ∀ ls : Array Slot, lv_has ls 4 [(2, .int (nI i)), (0, .ref (ad 0)), (1, .int (nI p0))] → W p l e ({ frames := 2, cells := 0, slots := 0, locals := 48 }) s m args below meth c H locs 0 0 Q (F0 m 2 ls []) := by
    intro k
    induction k with
    | zero => intro i _ h; omega
    | succ k ih =>
      intro i hi hk na H locs C ls hl
      refine lv_iload_n hx hb dX1_repeats_2 rfl (lv_at hl 0 rfl) ?_
      refine lv_iload_n hx hb dX1_repeats_3 rfl (lv_at hl 2 rfl) ?_
      refine pz_cge (tgt := 35) M (by omega) (by omega) dX1_repeats_4 (by decide) (fun h4 => ?_) (fun h4 => ?_)
      · refine lv_iconst (v := 0) hx hb dX1_repeats_35 (by decide +kernel) ?_
        exact ret _ _ _ _ _ _ C dX1_repeats_36 rfl ⟨rfl, by rw [show p0 = i by omega] at na ⊢; rw [na]; rfl⟩
      · have hi24 : i < 24 := by omega
        have ji := I0.2.1 i hi24
        refine lv_aload_n hx hb dX1_repeats_7 rfl (lv_at hl 1 rfl) ?_
        refine pm_g_fo M C dX1_repeats_8 ?_
        refine lv_iload_n hx hb dX1_repeats_11 rfl (lv_at hl 0 rfl) ?_
        refine pm_l_fo M C (by omega) dX1_repeats_12 ?_
        refine pz_zeq (tgt := 29) M (by omega) dX1_repeats_13 (by decide) (fun h13 => ?_) (fun h13 => ?_)
        · refine pz_iinc1 (k := 0) (lv' := [(2, _), (0, _), (1, _)]) M dX1_repeats_29 hl rfl (by decide) rfl (fun ls hl => ?_)
          refine lv_goto (tgt := 2) hx hb dX1_repeats_32 (by decide) ?_
          exact ih (i + 1) (by omega) (by omega) (ag_s0 na (Or.inl ((R.2 i hi24).1.mp h13))) _ _ C _ (lv_sub hl [0, 1, 2] rfl)
        · refine lv_aload_n hx hb dX1_repeats_16 rfl (lv_at hl 1 rfl) ?_
          refine lv_iload_n hx hb dX1_repeats_17 rfl (lv_at hl 0 rfl) ?_
          refine lv_iload_n hx hb dX1_repeats_18 rfl (lv_at hl 2 rfl) ?_
          refine pz_calli M hA C rfl rfl iX1_107 (mtX1_equalPages R hi24 hp0) ⟨Nat.le_of_ble_eq_true rfl, Nat.le_of_ble_eq_true rfl⟩ ⟨rfl, rfl⟩ rfl hl.1 rfl (Nat.le_of_ble_eq_true rfl) dX1_repeats_19 ⟨Nat.le_of_ble_eq_true rfl, Nat.le_of_ble_eq_true rfl⟩ (fun r u H locs hp C => ?_)
          obtain ⟨rfl, rfl⟩ := hp
          refine lv_istore_n (lv' := [(3, _), (2, _), (0, _), (1, _)]) hx hb dX1_repeats_22 rfl hl (by decide) rfl (fun ls hl => ?_)
          refine lv_iload_n hx hb dX1_repeats_23 rfl (lv_at hl 0 rfl) ?_
          refine pz_beq (tgt := 29) M dX1_repeats_24 (by decide) (fun h24 => ?_) (fun h24 => ?_)
          · refine pz_iinc1 (k := 1) (lv' := [(2, _), (3, _), (0, _), (1, _)]) M dX1_repeats_29 hl rfl (by decide) rfl (fun ls hl => ?_)
            refine lv_goto (tgt := 2) hx hb dX1_repeats_32 (by decide) ?_
            exact ih (i + 1) (by omega) (by omega) (ag_s0 na (Or.inr h24)) _ _ C _ (lv_sub hl [0, 2, 3] rfl)
          · refine lv_iconst (v := 1) hx hb dX1_repeats_27 (by decide +kernel) ?_
            exact ret _ _ _ _ _ _ C dX1_repeats_28 rfl ⟨rfl, by rw [ag_mono (ag_s1 (Rl_fn R hi24 h13) h24) p0 (by omega)]; rfl⟩
  refine lv_iconst (v := nI 0) hx hb dX1_repeats_0 (by decide +kernel) ?_
  refine lv_istore_n (lv' := [(2, _), (0, _), (1, _)]) hx hb dX1_repeats_1 rfl hl (by decide) rfl (fun ls hl => ?_)
  exact lp (p0 + 1) 0 (by omega) (by omega) rfl _ _ C _ (lv_sub hl [0, 1, 2] rfl)
set_option maxHeartbeats 4000000 in
set_option maxRecDepth 100000 in
/-- contents() as the model has it -/
theorem mtX1_contents {l : Launch} {g : pz_G} {ad : Nat → Nat} {σ : pm_S} {μ : md_S} (R : pm_Rl σ μ) : pz_Mi l yX1_contents cX1_contents 3 .int ({ frames := 6, cells := 0, slots := 0, locals := 144 }) (pm_W g ad) g σ [.ref (ad 0)] (fun r u => r = mn_r μ ∧ u = σ) := by
  obtain ⟨fr, hd, sc, fo, wh, to, ho, me, ru, rl, fv, sv, au, ai⟩ := σ
  have I0 : pm_I fr hd sc fo wh ho rl ru au := R.1
  refine pz_enterI (by decide) (Nat.le_of_ble_eq_true rfl) ?_
  intro p e s m args below meth c A Q M hA ret C ls hl
  have hx := M.1
  have hb := M.2.1
  have hl : lv_has ls 3 [(0, .ref (ad 0))] := hl
  have lp : ∀ (k i n : Nat), i ≤ 24 → 25 ≤ i + k → n = md_ct (fun p => !(μ.2 p) && !(md_ag μ p p)) i → ∀ (H : Heap) (locs : List Loc), pz_C (pm_W g ad) g A s (fr, hd, sc, fo, wh, to, ho, me, ru, rl, fv, sv, au, ai) H locs → ∀ ls : Array Slot, lv_has ls 3 [(2, .int (nI i)), (1, .int (nI n)), (0, .ref (ad 0))] → W p l e ({ frames := 6, cells := 0, slots := 0, locals := 144 }) s m args below meth c H locs 0 0 Q (F0 m 4 ls []) := by
    intro k
    induction k with
    | zero => intro i n _ h; omega
    | succ k ih =>
      intro i n hi hk en H locs C ls hl
      refine lv_iload_n hx hb dX1_contents_4 rfl (lv_at hl 0 rfl) ?_
      refine lv_bipush (v := nI 24) hx hb dX1_contents_5 (by decide +kernel) ?_
      refine pz_cge (tgt := 36) M (by omega) (by omega) dX1_contents_7 (by decide) (fun h7 => ?_) (fun h7 => ?_)
      · refine lv_iload_n hx hb dX1_contents_36 rfl (lv_at hl 1 rfl) ?_
        exact ret _ _ _ _ _ _ C dX1_contents_37 rfl ⟨by rw [en, show i = 24 by omega]; rfl, rfl⟩
      · have ji := I0.2.1 i h7
        refine lv_aload_n hx hb dX1_contents_10 rfl (lv_at hl 2 rfl) ?_
        refine pm_g_fo M C dX1_contents_11 ?_
        refine lv_iload_n hx hb dX1_contents_14 rfl (lv_at hl 0 rfl) ?_
        refine pm_l_fo M C (by omega) dX1_contents_15 ?_
        refine pz_zeq (tgt := 30) M (by omega) dX1_contents_16 (by decide) (fun h16 => ?_) (fun h16 => ?_)
        · refine pz_iinc1 (k := 0) (lv' := [(2, _), (1, _), (0, _)]) M dX1_contents_30 hl rfl (by decide) rfl (fun ls hl => ?_)
          refine lv_goto (tgt := 4) hx hb dX1_contents_33 (by decide) ?_
          exact ih (i + 1) n (by omega) (by omega) (ct_s0 en (by rw [(R.2 i h7).1.mp h16]; rfl)) _ _ C _ (lv_sub hl [0, 1, 2] rfl)
        · have nr := Rl_fn R h7 h16
          refine lv_aload_n hx hb dX1_contents_19 rfl (lv_at hl 2 rfl) ?_
          refine lv_iload_n hx hb dX1_contents_20 rfl (lv_at hl 0 rfl) ?_
          refine pz_calli M hA C rfl rfl iX1_110 (mtX1_repeats R h7) ⟨Nat.le_of_ble_eq_true rfl, Nat.le_of_ble_eq_true rfl⟩ ⟨rfl, rfl⟩ rfl hl.1 rfl (Nat.le_of_ble_eq_true rfl) dX1_contents_21 ⟨Nat.le_of_ble_eq_true rfl, Nat.le_of_ble_eq_true rfl⟩ (fun r u H locs hp C => ?_)
          obtain ⟨rfl, rfl⟩ := hp
          refine pz_bne (tgt := 30) M dX1_contents_24 (by decide) (fun h24 => ?_) (fun h24 => ?_)
          · refine pz_iinc1 (k := 0) (lv' := [(2, _), (1, _), (0, _)]) M dX1_contents_30 hl rfl (by decide) rfl (fun ls hl => ?_)
            refine lv_goto (tgt := 4) hx hb dX1_contents_33 (by decide) ?_
            exact ih (i + 1) n (by omega) (by omega) (ct_s0 en (by rw [nr, h24]; rfl)) _ _ C _ (lv_sub hl [0, 1, 2] rfl)
          · refine pz_iinc1 (k := 1) (lv' := [(1, _), (2, _), (0, _)]) M dX1_contents_27 hl rfl (by decide) rfl (fun ls hl => ?_)
            refine pz_iinc1 (k := 1) (lv' := [(2, _), (1, _), (0, _)]) M dX1_contents_30 hl rfl (by decide) rfl (fun ls hl => ?_)
            refine lv_goto (tgt := 4) hx hb dX1_contents_33 (by decide) ?_
            exact ih (i + 1) (n + 1) (by omega) (by omega) (ct_s1 en (by rw [nr, h24]; rfl)) _ _ C _ (lv_sub hl [0, 1, 2] rfl)
  refine lv_iconst (v := nI 0) hx hb dX1_contents_0 (by decide +kernel) ?_
  refine lv_istore_n (lv' := [(1, _), (0, _)]) hx hb dX1_contents_1 rfl hl (by decide) rfl (fun ls hl => ?_)
  refine lv_iconst (v := nI 0) hx hb dX1_contents_2 (by decide +kernel) ?_
  refine lv_istore_n (lv' := [(2, _), (1, _), (0, _)]) hx hb dX1_contents_3 rfl hl (by decide) rfl (fun ls hl => ?_)
  exact lp 25 0 0 (by omega) (by omega) rfl _ _ C _ (lv_sub hl [0, 1, 2] rfl)
set_option maxHeartbeats 4000000 in
set_option maxRecDepth 100000 in
/-- duplicates() as the model has it -/
theorem mtX1_duplicates {l : Launch} {g : pz_G} {ad : Nat → Nat} {σ : pm_S} {μ : md_S} (R : pm_Rl σ μ) : pz_Mi l yX1_duplicates cX1_duplicates 3 .int ({ frames := 6, cells := 0, slots := 0, locals := 144 }) (pm_W g ad) g σ [.ref (ad 0)] (fun r u => r = me_r μ ∧ u = σ) := by
  obtain ⟨fr, hd, sc, fo, wh, to, ho, me, ru, rl, fv, sv, au, ai⟩ := σ
  have I0 : pm_I fr hd sc fo wh ho rl ru au := R.1
  refine pz_enterI (by decide) (Nat.le_of_ble_eq_true rfl) ?_
  intro p e s m args below meth c A Q M hA ret C ls hl
  have hx := M.1
  have hb := M.2.1
  have hl : lv_has ls 3 [(0, .ref (ad 0))] := hl
  have lp : ∀ (k i n : Nat), i ≤ 24 → 25 ≤ i + k → n = md_ct (fun p => !(μ.2 p) && md_ag μ p p) i → ∀ (H : Heap) (locs : List Loc), pz_C (pm_W g ad) g A s (fr, hd, sc, fo, wh, to, ho, me, ru, rl, fv, sv, au, ai) H locs → ∀ ls : Array Slot, lv_has ls 3 [(2, .int (nI i)), (1, .int (nI n)), (0, .ref (ad 0))] → W p l e ({ frames := 6, cells := 0, slots := 0, locals := 144 }) s m args below meth c H locs 0 0 Q (F0 m 4 ls []) := by
    intro k
    induction k with
    | zero => intro i n _ h; omega
    | succ k ih =>
      intro i n hi hk en H locs C ls hl
      refine lv_iload_n hx hb dX1_duplicates_4 rfl (lv_at hl 0 rfl) ?_
      refine lv_bipush (v := nI 24) hx hb dX1_duplicates_5 (by decide +kernel) ?_
      refine pz_cge (tgt := 36) M (by omega) (by omega) dX1_duplicates_7 (by decide) (fun h7 => ?_) (fun h7 => ?_)
      · refine lv_iload_n hx hb dX1_duplicates_36 rfl (lv_at hl 1 rfl) ?_
        exact ret _ _ _ _ _ _ C dX1_duplicates_37 rfl ⟨by rw [en, show i = 24 by omega]; rfl, rfl⟩
      · have ji := I0.2.1 i h7
        refine lv_aload_n hx hb dX1_duplicates_10 rfl (lv_at hl 2 rfl) ?_
        refine pm_g_fo M C dX1_duplicates_11 ?_
        refine lv_iload_n hx hb dX1_duplicates_14 rfl (lv_at hl 0 rfl) ?_
        refine pm_l_fo M C (by omega) dX1_duplicates_15 ?_
        refine pz_zeq (tgt := 30) M (by omega) dX1_duplicates_16 (by decide) (fun h16 => ?_) (fun h16 => ?_)
        · refine pz_iinc1 (k := 0) (lv' := [(2, _), (1, _), (0, _)]) M dX1_duplicates_30 hl rfl (by decide) rfl (fun ls hl => ?_)
          refine lv_goto (tgt := 4) hx hb dX1_duplicates_33 (by decide) ?_
          exact ih (i + 1) n (by omega) (by omega) (ct_s0 en (by rw [(R.2 i h7).1.mp h16]; rfl)) _ _ C _ (lv_sub hl [0, 1, 2] rfl)
        · have nr := Rl_fn R h7 h16
          refine lv_aload_n hx hb dX1_duplicates_19 rfl (lv_at hl 2 rfl) ?_
          refine lv_iload_n hx hb dX1_duplicates_20 rfl (lv_at hl 0 rfl) ?_
          refine pz_calli M hA C rfl rfl iX1_110 (mtX1_repeats R h7) ⟨Nat.le_of_ble_eq_true rfl, Nat.le_of_ble_eq_true rfl⟩ ⟨rfl, rfl⟩ rfl hl.1 rfl (Nat.le_of_ble_eq_true rfl) dX1_duplicates_21 ⟨Nat.le_of_ble_eq_true rfl, Nat.le_of_ble_eq_true rfl⟩ (fun r u H locs hp C => ?_)
          obtain ⟨rfl, rfl⟩ := hp
          refine pz_beq (tgt := 30) M dX1_duplicates_24 (by decide) (fun h24 => ?_) (fun h24 => ?_)
          · refine pz_iinc1 (k := 0) (lv' := [(2, _), (1, _), (0, _)]) M dX1_duplicates_30 hl rfl (by decide) rfl (fun ls hl => ?_)
            refine lv_goto (tgt := 4) hx hb dX1_duplicates_33 (by decide) ?_
            exact ih (i + 1) n (by omega) (by omega) (ct_s0 en (by rw [nr, h24]; rfl)) _ _ C _ (lv_sub hl [0, 1, 2] rfl)
          · refine pz_iinc1 (k := 1) (lv' := [(1, _), (2, _), (0, _)]) M dX1_duplicates_27 hl rfl (by decide) rfl (fun ls hl => ?_)
            refine pz_iinc1 (k := 1) (lv' := [(2, _), (1, _), (0, _)]) M dX1_duplicates_30 hl rfl (by decide) rfl (fun ls hl => ?_)
            refine lv_goto (tgt := 4) hx hb dX1_duplicates_33 (by decide) ?_
            exact ih (i + 1) (n + 1) (by omega) (by omega) (ct_s1 en (by rw [nr, h24]; rfl)) _ _ C _ (lv_sub hl [0, 1, 2] rfl)
  refine lv_iconst (v := nI 0) hx hb dX1_duplicates_0 (by decide +kernel) ?_
  refine lv_istore_n (lv' := [(1, _), (0, _)]) hx hb dX1_duplicates_1 rfl hl (by decide) rfl (fun ls hl => ?_)
  refine lv_iconst (v := nI 0) hx hb dX1_duplicates_2 (by decide +kernel) ?_
  refine lv_istore_n (lv' := [(2, _), (1, _), (0, _)]) hx hb dX1_duplicates_3 rfl hl (by decide) rfl (fun ls hl => ?_)
  exact lp 25 0 0 (by omega) (by omega) rfl _ _ C _ (lv_sub hl [0, 1, 2] rfl)
set_option maxHeartbeats 4000000 in
set_option maxRecDepth 100000 in
/-- sum(guest) as the model has it -/
theorem mtX1_sum {l : Launch} {g : pz_G} {ad : Nat → Nat} {σ : pm_S} {μ : md_S} {x1 : Int32} (R : pm_Rl σ μ) : pz_Mi l yX1_sum cX1_sum 5 .int ({ frames := 6, cells := 0, slots := 0, locals := 144 }) (pm_W g ad) g σ [.ref (ad 0), .int x1] (fun r u => r = mu_r μ x1 ∧ u = σ) := by
  obtain ⟨fr, hd, sc, fo, wh, to, ho, me, ru, rl, fv, sv, au, ai⟩ := σ
  have I0 : pm_I fr hd sc fo wh ho rl ru au := R.1
  refine pz_enterI (by decide) (Nat.le_of_ble_eq_true rfl) ?_
  intro p e s m args below meth c A Q M hA ret C ls hl
  have hx := M.1
  have hb := M.2.1
  have hl : lv_has ls 5 [(0, .ref (ad 0)), (1, .int x1)] := hl
  refine lv_iload_n hx hb dX1_sum_0 rfl (lv_at hl 1 rfl) ?_
  refine lv_if_lt (tgt := 9) hx hb dX1_sum_1 (by decide) (fun h1 => ?_) (fun h1 => ?_)
  · refine lv_iconst (v := 0) hx hb dX1_sum_9 (by decide +kernel) ?_
    exact ret _ _ _ _ _ _ C dX1_sum_10 rfl ⟨(mu_1 (pz_no1 (by decide) h1)).symm, rfl⟩
  · refine lv_iload_n hx hb dX1_sum_4 rfl (lv_at hl 1 rfl) ?_
    refine lv_iconst (v := nI 2) hx hb dX1_sum_5 (by decide +kernel) ?_
    refine lv_icmp_le (tgt := 11) hx hb dX1_sum_6 (by decide) (fun h6 => ?_) (fun h6 => ?_)
    · obtain ⟨g0, hg0, rfl⟩ := pz_in_le (by decide) h1 h6
      have lp : ∀ (k i : Nat) (x : Int32), g0 * 8 ≤ i → i ≤ g0 * 8 + 8 → g0 * 8 + 9 ≤ i + k → x = md_sg μ.1 (g0 * 32) (4 * (i - g0 * 8)) → ∀ (H : Heap) (locs : List Loc), pz_C (pm_W g ad) g A s (fr, hd, sc, fo, wh, to, ho, me, ru, rl, fv, sv, au, ai) H locs → ∀ ls : Array Slot, lv_has ls 5 [(3, .int (nI i)), (2, .int x), (0, .ref (ad 0)), (1, .int (nI g0))] → W p l e ({ frames := 6, cells := 0, slots := 0, locals := 144 }) s m args below meth c H locs 0 0 Q (F0 m 18 ls []) := by
        intro k
        induction k with
        | zero => intro i x _ _ h; omega
        | succ k ih =>
          intro i x hi0 hi hk ex H locs C ls hl
          refine lv_iload_n hx hb dX1_sum_18 rfl (lv_at hl 0 rfl) ?_
          refine lv_iload_n hx hb dX1_sum_19 rfl (lv_at hl 3 rfl) ?_
          refine lv_bipush (v := nI 8) hx hb dX1_sum_20 (by decide +kernel) ?_
          refine pz_imulN M dX1_sum_22 ?_
          refine lv_bipush (v := nI 8) hx hb dX1_sum_23 (by decide +kernel) ?_
          refine pz_iaddN M dX1_sum_25 ?_
          refine pz_cge (tgt := 60) M (by omega) (by omega) dX1_sum_26 (by decide) (fun h26 => ?_) (fun h26 => ?_)
          · refine lv_iload_n hx hb dX1_sum_60 rfl (lv_at hl 1 rfl) ?_
            exact ret _ _ _ _ _ _ C dX1_sum_61 rfl ⟨by rw [mu_2 hg0, ex, show i - g0 * 8 = 8 by omega], rfl⟩
          · have hi24 : i < 24 := by omega
            have lq : ∀ (k2 j : Nat) (x : Int32), j ≤ 4 → 5 ≤ j + k2 → x = md_sg μ.1 (g0 * 32) (4 * (i - g0 * 8) + j) → ∀ (H : Heap) (locs : List Loc), pz_C (pm_W g ad) g A s (fr, hd, sc, fo, wh, to, ho, me, ru, rl, fv, sv, au, ai) H locs → ∀ ls : Array Slot, lv_has ls 5 [(4, .int (nI j)), (2, .int x), (3, .int (nI i)), (0, .ref (ad 0)), (1, .int (nI g0))] → W p l e ({ frames := 6, cells := 0, slots := 0, locals := 144 }) s m args below meth c H locs 0 0 Q (F0 m 32 ls []) := by
              intro k2
              induction k2 with
              | zero => intro j x _ h; omega
              | succ k2 ih2 =>
                intro j x hj hk2 ex H locs C ls hl
                refine lv_iload hx hb dX1_sum_32 (lv_at hl 0 rfl) ?_
                refine lv_iconst (v := nI 4) hx hb dX1_sum_34 (by decide +kernel) ?_
                refine pz_cge (tgt := 54) M (by omega) (by omega) dX1_sum_35 (by decide) (fun h35 => ?_) (fun h35 => ?_)
                · refine pz_iinc1 (k := 2) (lv' := [(3, _), (4, _), (2, _), (0, _), (1, _)]) M dX1_sum_54 hl rfl (by decide) rfl (fun ls hl => ?_)
                  refine lv_goto (tgt := 18) hx hb dX1_sum_57 (by decide) ?_
                  exact ih (i + 1) x (by omega) (by omega) (by omega) (by rw [ex, show 4 * (i + 1 - g0 * 8) = 4 * (i - g0 * 8) + j by omega]) _ _ C _ (lv_sub hl [0, 2, 3, 4] rfl)
                · refine lv_iload_n hx hb dX1_sum_38 rfl (lv_at hl 1 rfl) ?_
                  refine lv_aload_n hx hb dX1_sum_39 rfl (lv_at hl 3 rfl) ?_
                  refine lv_iload_n hx hb dX1_sum_40 rfl (lv_at hl 2 rfl) ?_
                  refine lv_iload hx hb dX1_sum_41 (lv_at hl 0 rfl) ?_
                  refine pz_calli M hA C rfl rfl iX1_48 (mtX1_peek (ps_ok_I R.1 hi24) (by omega)) ⟨Nat.le_of_ble_eq_true rfl, Nat.le_of_ble_eq_true rfl⟩ ⟨rfl, rfl⟩ rfl hl.1 rfl (Nat.le_of_ble_eq_true rfl) dX1_sum_43 ⟨Nat.le_of_ble_eq_true rfl, Nat.le_of_ble_eq_true rfl⟩ (fun r u H locs hp C => ?_)
                  obtain ⟨rfl, hr⟩ := hp
                  refine lv_iadd hx hb dX1_sum_46 ?_
                  refine lv_istore_n (lv' := [(2, _), (4, _), (3, _), (0, _), (1, _)]) hx hb dX1_sum_47 rfl hl (by decide) rfl (fun ls hl => ?_)
                  refine pz_iinc1 (k := 1) (lv' := [(4, _), (2, _), (3, _), (0, _), (1, _)]) M dX1_sum_48 hl rfl (by decide) rfl (fun ls hl => ?_)
                  refine lv_goto (tgt := 32) hx hb dX1_sum_51 (by decide) ?_
                  exact ih2 (j + 1) _ (by omega) (by omega) (sg_s ex (hr.trans (((R.2 i hi24).2 j (by omega)).trans (by rw [show g0 * 32 + (4 * (i - g0 * 8) + j) = i * 4 + j by omega]))) (by omega)) _ _ C _ (lv_sub hl [0, 1, 2, 3, 4] rfl)
            refine lv_iconst (v := nI 0) hx hb dX1_sum_29 (by decide +kernel) ?_
            refine lv_istore (lv' := [(4, _), (3, _), (2, _), (0, _), (1, _)]) hx hb dX1_sum_30 hl (by decide) rfl (fun ls hl => ?_)
            exact lq 5 0 x (by omega) (by omega) ex _ _ C _ (lv_sub hl [0, 2, 1, 3, 4] rfl)
      refine lv_iconst (v := 0) hx hb dX1_sum_11 (by decide +kernel) ?_
      refine lv_istore_n (lv' := [(2, _), (0, _), (1, _)]) hx hb dX1_sum_12 rfl hl (by decide) rfl (fun ls hl => ?_)
      refine lv_iload_n hx hb dX1_sum_13 rfl (lv_at hl 2 rfl) ?_
      refine lv_bipush (v := nI 8) hx hb dX1_sum_14 (by decide +kernel) ?_
      refine pz_imulN M dX1_sum_16 ?_
      refine lv_istore_n (lv' := [(3, _), (2, _), (0, _), (1, _)]) hx hb dX1_sum_17 rfl hl (by decide) rfl (fun ls hl => ?_)
      exact lp 9 (g0 * 8) 0 (by omega) (by omega) (by omega) (by rw [Nat.sub_self]; rfl) _ _ C _ (lv_sub hl [0, 1, 2, 3] rfl)
    · refine lv_iconst (v := 0) hx hb dX1_sum_9 (by decide +kernel) ?_
      exact ret _ _ _ _ _ _ C dX1_sum_10 rfl ⟨(mu_1 (pz_no3 (by decide) h6)).symm, rfl⟩
set_option maxHeartbeats 4000000 in
set_option maxRecDepth 100000 in
/-- plain() as the model has it -/
theorem mtX1_plain {l : Launch} {g : pz_G} {ad : Nat → Nat} {σ : pm_S} {μ : md_S} (R : pm_Rl σ μ) : pz_Mi l yX1_plain cX1_plain 4 .int ({ frames := 6, cells := 0, slots := 0, locals := 144 }) (pm_W g ad) g σ [.ref (ad 0)] (fun r u => r = mp_r μ ∧ u = σ) := by
  obtain ⟨fr, hd, sc, fo, wh, to, ho, me, ru, rl, fv, sv, au, ai⟩ := σ
  have I0 : pm_I fr hd sc fo wh ho rl ru au := R.1
  refine pz_enterI (by decide) (Nat.le_of_ble_eq_true rfl) ?_
  intro p e s m args below meth c A Q M hA ret C ls hl
  have hx := M.1
  have hb := M.2.1
  have hl : lv_has ls 4 [(0, .ref (ad 0))] := hl
  have lp : ∀ (k i n : Nat), i ≤ 24 → 25 ≤ i + k → n = md_ct (fun p => md_pl μ.1 p && !(μ.2 p)) i → ∀ (H : Heap) (locs : List Loc), pz_C (pm_W g ad) g A s (fr, hd, sc, fo, wh, to, ho, me, ru, rl, fv, sv, au, ai) H locs → ∀ ls : Array Slot, lv_has ls 4 [(2, .int (nI i)), (1, .int (nI n)), (0, .ref (ad 0))] → W p l e ({ frames := 6, cells := 0, slots := 0, locals := 144 }) s m args below meth c H locs 0 0 Q (F0 m 4 ls []) := by
    intro k
    induction k with
    | zero => intro i n _ h; omega
    | succ k ih =>
      intro i n hi hk en H locs C ls hl
      refine lv_iload_n hx hb dX1_plain_4 rfl (lv_at hl 0 rfl) ?_
      refine lv_bipush (v := nI 24) hx hb dX1_plain_5 (by decide +kernel) ?_
      refine pz_cge (tgt := 39) M (by omega) (by omega) dX1_plain_7 (by decide) (fun h7 => ?_) (fun h7 => ?_)
      · refine lv_iload_n hx hb dX1_plain_39 rfl (lv_at hl 1 rfl) ?_
        exact ret _ _ _ _ _ _ C dX1_plain_40 rfl ⟨by rw [en, show i = 24 by omega]; rfl, rfl⟩
      · have ji := I0.2.1 i h7
        refine lv_aload_n hx hb dX1_plain_10 rfl (lv_at hl 2 rfl) ?_
        refine pm_g_fo M C dX1_plain_11 ?_
        refine lv_iload_n hx hb dX1_plain_14 rfl (lv_at hl 0 rfl) ?_
        refine pm_l_fo M C (by omega) dX1_plain_15 ?_
        refine pz_zeq (tgt := 33) M (by omega) dX1_plain_16 (by decide) (fun h16 => ?_) (fun h16 => ?_)
        · refine pz_iinc1 (k := 0) (lv' := [(2, _), (1, _), (0, _)]) M dX1_plain_33 hl rfl (by decide) rfl (fun ls hl => ?_)
          refine lv_goto (tgt := 4) hx hb dX1_plain_36 (by decide) ?_
          exact ih (i + 1) n (by omega) (by omega) (ct_s0 en (by rw [(R.2 i h7).1.mp h16]; cases md_pl μ.1 i <;> rfl)) _ _ C _ (lv_sub hl [0, 1, 2] rfl)
        · have nr := Rl_fn R h7 h16
          refine lv_aload_n hx hb dX1_plain_19 rfl (lv_at hl 2 rfl) ?_
          refine lv_iload_n hx hb dX1_plain_20 rfl (lv_at hl 0 rfl) ?_
          refine pz_calli M hA C rfl rfl iX1_56 (mtX1_runsOf (ps_ok_I R.1 h7)) ⟨Nat.le_of_ble_eq_true rfl, Nat.le_of_ble_eq_true rfl⟩ ⟨rfl, rfl⟩ rfl hl.1 rfl (Nat.le_of_ble_eq_true rfl) dX1_plain_21 ⟨Nat.le_of_ble_eq_true rfl, Nat.le_of_ble_eq_true rfl⟩ (fun r u H locs hp C => ?_)
          obtain ⟨rfl, n1, rfl, hn1⟩ := hp
          have n14 := hn1.1
          refine lv_istore_n (lv' := [(3, _), (2, _), (1, _), (0, _)]) hx hb dX1_plain_24 rfl hl (by decide) rfl (fun ls hl => ?_)
          refine lv_iload_n hx hb dX1_plain_25 rfl (lv_at hl 0 rfl) ?_
          refine lv_iconst (v := nI 4) hx hb dX1_plain_26 (by decide +kernel) ?_
          refine pz_cne (tgt := 33) M (by omega) (by omega) dX1_plain_27 (by decide) (fun h27 => ?_) (fun h27 => ?_)
          · refine pz_iinc1 (k := 1) (lv' := [(2, _), (3, _), (1, _), (0, _)]) M dX1_plain_33 hl rfl (by decide) rfl (fun ls hl => ?_)
            refine lv_goto (tgt := 4) hx hb dX1_plain_36 (by decide) ?_
            exact ih (i + 1) n (by omega) (by omega) (ct_s0 en (by rw [b_not (fun e => h27 (hn1.2.2.mpr ((Rl_pl R h7).mpr e)))]; rfl)) _ _ C _ (lv_sub hl [0, 2, 3] rfl)
          · refine pz_iinc1 (k := 2) (lv' := [(1, _), (3, _), (2, _), (0, _)]) M dX1_plain_30 hl rfl (by decide) rfl (fun ls hl => ?_)
            refine pz_iinc1 (k := 2) (lv' := [(2, _), (1, _), (3, _), (0, _)]) M dX1_plain_33 hl rfl (by decide) rfl (fun ls hl => ?_)
            refine lv_goto (tgt := 4) hx hb dX1_plain_36 (by decide) ?_
            exact ih (i + 1) (n + 1) (by omega) (by omega) (ct_s1 en (by rw [nr, (Rl_pl R h7).mp (hn1.2.2.mp h27)]; rfl)) _ _ C _ (lv_sub hl [0, 1, 3] rfl)
  refine lv_iconst (v := nI 0) hx hb dX1_plain_0 (by decide +kernel) ?_
  refine lv_istore_n (lv' := [(1, _), (0, _)]) hx hb dX1_plain_1 rfl hl (by decide) rfl (fun ls hl => ?_)
  refine lv_iconst (v := nI 0) hx hb dX1_plain_2 (by decide +kernel) ?_
  refine lv_istore_n (lv' := [(2, _), (1, _), (0, _)]) hx hb dX1_plain_3 rfl hl (by decide) rfl (fun ls hl => ?_)
  exact lp 25 0 0 (by omega) (by omega) rfl _ _ C _ (lv_sub hl [0, 1, 2] rfl)
end
section
/-! PageMerger: merge, scan -/
set_option maxRecDepth 100000
theorem pz_xor (x : Int32) : ¬ x ^^^ (-1) = x := by
  intro h
  have h2 : (x ^^^ (-1)).toBitVec.getLsbD 0 = x.toBitVec.getLsbD 0 := by rw [h]
  rw [Int32.toBitVec_xor, BitVec.getLsbD_xor, show (-1 : Int32).toBitVec.getLsbD 0 = true by decide +kernel] at h2
  cases hx : x.toBitVec.getLsbD 0 <;> rw [hx] at h2 <;> cases h2
def ps_Mg (σ u : pm_S) : Prop := ps_I u ∧ ps_Eq σ u ∧ ps_fo u = ps_fo σ ∧ ps_to u = ps_to σ ∧ ps_sc u = ps_sc σ
theorem pm_mg {fr : Nat} {hd : Nat} {sc : Nat} {fo : Nat → Nat} {wh : Nat → Nat} {to : Nat → Bool} {ho : Nat → Nat} {me : Nat → Int32} {ru : Nat → Bool} {rl : Nat → Nat} {fv : Nat → Int32} {sv : Nat → Int32} {au : Nat → Bool} {ai : Nat → Int32} {p o f : Nat} (I : pm_I fr hd sc fo wh ho rl ru au) (hp : p < 24) (h1 : fo p = 1) (ho1 : wh p = o) (hf : f < fr) (ne : f ≠ o) (hm : ∀ w, w < 4 → me (o * 4 + w) = me (f * 4 + w)) :
    pm_I fr hd sc fo (va_up wh p f) (va_up (va_up ho o (ho o - 1)) f (va_up ho o (ho o - 1) f + 1)) rl ru au ∧ ps_Eq (fr, hd, sc, fo, wh, to, ho, me, ru, rl, fv, sv, au, ai) (fr, hd, sc, fo, va_up wh p f, to, va_up (va_up ho o (ho o - 1)) f (va_up ho o (ho o - 1) f + 1), me, ru, rl, fv, sv, au, ai) := by
  subst ho1
  have ch : pm_ch fo wh fo (va_up wh p f) p 1 f := ⟨fun q _ hq => ⟨rfl, va_up_ne _ _ hq⟩, h1, va_up_self _ _ _⟩
  obtain ⟨i1, i2, i3, i4, i5, i6⟩ := I
  have hj := ho_move i3 hp h1 ch ne
  rw [show va_up ho (wh p) (ho (wh p) - 1) f = ho f from va_up_ne _ _ ne]
  refine ⟨⟨i1, rg_1 i2 ch (by decide) (by omega) (fun _ => hf), hj, i4, us_stay i5 (by omega) ch (by decide), us_stay i6 (by omega) ch (by decide)⟩, fun q hq => ⟨Iff.rfl, fun w hw => ?_⟩⟩
  by_cases e : q = p
  · subst e
    show pm_word fo (va_up wh q f) rl me fv sv ai q w = pm_word fo wh rl me fv sv ai q w
    rw [show pm_word fo (va_up wh q f) rl me fv sv ai q w = me (va_up wh q f q * 4 + w) from if_pos h1, va_up_self, show pm_word fo wh rl me fv sv ai q w = me (wh q * 4 + w) from if_pos h1]
    exact (hm w hw).symm
  · obtain ⟨a, b⟩ := ch.1 q hq e
    exact word_eq a b (fun _ => rfl) (fun _ => ⟨rfl, rfl, rfl⟩) (fun _ => rfl)
set_option maxHeartbeats 4000000 in
set_option maxRecDepth 100000 in
/-- merge(p): the page may share another frame with the same words -/
theorem mtX1_merge {l : Launch} {g : pz_G} {ad : Nat → Nat} {σ : pm_S} {p0 : Nat} (I : ps_I σ) (hp0 : p0 < 24) (h1 : ps_fo σ p0 = 1) : pz_Mv l yX1_merge cX1_merge 7 ({ frames := 2, cells := 0, slots := 0, locals := 44 }) (pm_W g ad) g σ [.ref (ad 0), .int (nI p0)] (fun u => ps_Mg σ u) := by
  obtain ⟨fr, hd, sc, fo, wh, to, ho, me, ru, rl, fv, sv, au, ai⟩ := σ
  have I0 : pm_I fr hd sc fo wh ho rl ru au := I
  have h1 : fo p0 = 1 := h1
  obtain ⟨g1, g2, g3⟩ := ps_ho1 I0 hp0 h1
  have f16 := I0.1.2.1
  refine pz_enterV (by decide) (Nat.le_of_ble_eq_true rfl) ?_
  intro p e s m args below meth c A Q M hA ret C ls hl
  have hx := M.1
  have hb := M.2.1
  have hl : lv_has ls 7 [(0, .ref (ad 0)), (1, .int (nI p0))] := hl
  have lp : ∀ (h3 : Int32) (k f : Nat) (wh' ho' : Nat → Nat), f ≤ fr → fr + 1 ≤ f + k → pm_I fr hd sc fo wh' ho' rl ru au → ps_Eq (fr, hd, sc, fo, wh, to, ho, me, ru, rl, fv, sv, au, ai) (fr, hd, sc, fo, wh', to, ho', me, ru, rl, fv, sv, au, ai) → ∀ (H : Heap) (locs : List Loc), pz_C (pm_W g ad) g A s (fr, hd, sc, fo, wh', to, ho', me, ru, rl, fv, sv, au, ai) H locs → ∀ ls : Array Slot, lv_has ls 7 [(4, .int (nI f)), (3, .int h3), (2, .int (nI (wh p0))), (0, .ref (ad 0)), (1, .int (nI p0))] → W p l e ({ frames := 2, cells := 0, slots := 0, locals := 44 }) s m args below meth c H locs 0 0 Q (F0 m 16 ls []) := by
    intro h3 k
    induction k with
    | zero => intro f wh' ho' _ h; omega
    | succ k ih =>
      intro f wh' ho' hf hk I1 E1 H locs C ls hl
      refine lv_iload hx hb dX1_merge_16 (lv_at hl 0 rfl) ?_
      refine lv_aload_n hx hb dX1_merge_18 rfl (lv_at hl 3 rfl) ?_
      refine pm_g_fr M C dX1_merge_19 ?_
      refine pz_cge (tgt := 120) M (by omega) (by omega) dX1_merge_22 (by decide) (fun h22 => ?_) (fun h22 => ?_)
      · exact ret _ _ _ _ _ C dX1_merge_120 ⟨I1, E1, rfl, rfl, rfl⟩
      · have hf16 : f < 16 := by omega
        have hof := ho_le I1 f hf16
        have jp := I1.2.1 p0 hp0
        have j114 : ∀ (H : Heap) (locs : List Loc), pz_C (pm_W g ad) g A s (fr, hd, sc, fo, wh', to, ho', me, ru, rl, fv, sv, au, ai) H locs → ∀ ls : Array Slot, lv_has ls 7 [(4, .int (nI f)), (3, .int h3), (2, .int (nI (wh p0))), (0, .ref (ad 0)), (1, .int (nI p0))] → W p l e ({ frames := 2, cells := 0, slots := 0, locals := 44 }) s m args below meth c H locs 0 0 Q (F0 m 114 ls []) := by
          intro H locs C ls hl
          refine pz_iinc1 (k := 0) (lv' := [(4, _), (3, _), (2, _), (0, _), (1, _)]) M dX1_merge_114 hl rfl (by decide) rfl (fun ls hl => ?_)
          refine lv_goto (tgt := 16) hx hb dX1_merge_117 (by decide) ?_
          exact ih (f + 1) wh' ho' (by omega) (by omega) I1 E1 _ _ C _ (lv_sub hl [0, 1, 2, 3, 4] rfl)
        have j55 : ∀ x5 : Int32, (x5 = h3 → f ≠ wh p0) → ∀ (H : Heap) (locs : List Loc), pz_C (pm_W g ad) g A s (fr, hd, sc, fo, wh', to, ho', me, ru, rl, fv, sv, au, ai) H locs → ∀ ls : Array Slot, lv_has ls 7 [(5, .int x5), (4, .int (nI f)), (3, .int h3), (2, .int (nI (wh p0))), (0, .ref (ad 0)), (1, .int (nI p0))] → W p l e ({ frames := 2, cells := 0, slots := 0, locals := 44 }) s m args below meth c H locs 0 0 Q (F0 m 55 ls []) := by
          intro x5 hne H locs C ls hl
          refine lv_iload hx hb dX1_merge_55 (lv_at hl 0 rfl) ?_
          refine lv_iload_n hx hb dX1_merge_57 rfl (lv_at hl 2 rfl) ?_
          refine lv_icmp_ne (tgt := 114) hx hb dX1_merge_58 (by decide) (fun h58 => ?_) (fun h58 => ?_)
          · exact j114 _ _ C _ (lv_sub hl [1, 2, 3, 4, 5] rfl)
          · refine lv_aload_n hx hb dX1_merge_61 rfl (lv_at hl 4 rfl) ?_
            refine pm_g_wh M C dX1_merge_62 ?_
            refine lv_iload_n hx hb dX1_merge_65 rfl (lv_at hl 5 rfl) ?_
            refine pm_l_wh M C (by omega) dX1_merge_66 ?_
            refine lv_iload_n hx hb dX1_merge_67 rfl (lv_at hl 3 rfl) ?_
            refine pz_cne (tgt := 114) M (by omega) (by omega) dX1_merge_68 (by decide) (fun h68 => ?_) (fun h68 => ?_)
            · exact j114 _ _ C _ (lv_sub hl [1, 2, 3, 4, 5] rfl)
            · refine lv_aload_n hx hb dX1_merge_71 rfl (lv_at hl 4 rfl) ?_
              refine lv_iload_n hx hb dX1_merge_72 rfl (lv_at hl 3 rfl) ?_
              refine lv_iload hx hb dX1_merge_73 (lv_at hl 1 rfl) ?_
              refine pz_calli M hA C rfl rfl iX1_97 (mtX1_equalFrames g3 hf16) ⟨Nat.le_of_ble_eq_true rfl, Nat.le_of_ble_eq_true rfl⟩ ⟨rfl, rfl⟩ rfl hl.1 rfl (Nat.le_of_ble_eq_true rfl) dX1_merge_75 ⟨Nat.le_of_ble_eq_true rfl, Nat.le_of_ble_eq_true rfl⟩ (fun r u H locs hp C => ?_)
              obtain ⟨rfl, hp⟩ := hp
              refine lv_istore (lv' := [(6, _), (5, _), (4, _), (3, _), (2, _), (0, _), (1, _)]) hx hb dX1_merge_78 hl (by decide) rfl (fun ls hl => ?_)
              refine lv_iload hx hb dX1_merge_80 (lv_at hl 0 rfl) ?_
              refine lv_if_eq (tgt := 114) hx hb dX1_merge_82 (by decide) (fun h82 => ?_) (fun h82 => ?_)
              · exact j114 _ _ C _ (lv_sub hl [2, 3, 4, 5, 6] rfl)
              · have hm : ∀ w, w < 4 → me (wh p0 * 4 + w) = me (f * 4 + w) := by
                  rcases hp with e | ⟨-, e⟩
                  · exact absurd e h82
                  · exact e
                have g := pm_mg (to := to) (fv := fv) (sv := sv) (ai := ai) I1 hp0 h1 h68 h22 (hne h58) hm
                have k1 := (ps_ho1 I1 hp0 h1).1
                rw [h68] at k1
                refine lv_aload_n hx hb dX1_merge_85 rfl (lv_at hl 5 rfl) ?_
                refine pm_g_ho M C dX1_merge_86 ?_
                refine lv_iload_n hx hb dX1_merge_89 rfl (lv_at hl 4 rfl) ?_
                refine lv_dup2_11 hx hb dX1_merge_90 rfl rfl ?_
                refine pm_l_ho M C (by omega) dX1_merge_91 ?_
                refine lv_iconst (v := nI 1) hx hb dX1_merge_92 (by decide +kernel) ?_
                refine pz_isubN M (by omega) dX1_merge_93 ?_
                refine pm_s_ho M C (by omega) dX1_merge_94 (fun H locs C => ?_)
                refine lv_aload_n hx hb dX1_merge_95 rfl (lv_at hl 5 rfl) ?_
                refine pm_g_ho M C dX1_merge_96 ?_
                refine lv_iload hx hb dX1_merge_99 (lv_at hl 2 rfl) ?_
                refine lv_dup2_11 hx hb dX1_merge_101 rfl rfl ?_
                refine pm_l_ho M C (by omega) dX1_merge_102 ?_
                refine lv_iconst (v := nI 1) hx hb dX1_merge_103 (by decide +kernel) ?_
                refine pz_iaddN M dX1_merge_104 ?_
                refine pm_s_ho M C (by omega) dX1_merge_105 (fun H locs C => ?_)
                refine lv_aload_n hx hb dX1_merge_106 rfl (lv_at hl 5 rfl) ?_
                refine pm_g_wh M C dX1_merge_107 ?_
                refine lv_iload_n hx hb dX1_merge_110 rfl (lv_at hl 6 rfl) ?_
                refine lv_iload hx hb dX1_merge_111 (lv_at hl 2 rfl) ?_
                refine pm_s_wh M C (by omega) dX1_merge_113 (fun H locs C => ?_)
                refine pz_iinc1 (k := 2) (lv' := [(4, _), (6, _), (5, _), (3, _), (2, _), (0, _), (1, _)]) M dX1_merge_114 hl rfl (by decide) rfl (fun ls hl => ?_)
                refine lv_goto (tgt := 16) hx hb dX1_merge_117 (by decide) ?_
                exact ih (f + 1) _ _ (by omega) (by omega) g.1 (ps_Eq_tr E1 g.2) _ _ C _ (lv_sub hl [0, 3, 4, 5, 6] rfl)
        refine lv_iload hx hb dX1_merge_25 (lv_at hl 0 rfl) ?_
        refine lv_iload_n hx hb dX1_merge_27 rfl (lv_at hl 2 rfl) ?_
        refine pz_ceq (tgt := 50) M (by omega) (by omega) dX1_merge_28 (by decide) (fun h28 => ?_) (fun h28 => ?_)
        · refine lv_iload_n hx hb dX1_merge_50 rfl (lv_at hl 1 rfl) ?_
          refine lv_iconst (v := (-1)) hx hb dX1_merge_51 (by decide +kernel) ?_
          refine lv_ixor hx hb dX1_merge_52 ?_
          refine lv_istore (lv' := [(5, _), (4, _), (3, _), (2, _), (0, _), (1, _)]) hx hb dX1_merge_53 hl (by decide) rfl (fun ls hl => ?_)
          exact j55 _ (fun e => absurd e (pz_xor h3)) _ _ C _ (lv_sub hl [0, 1, 2, 3, 4, 5] rfl)
        · refine lv_aload_n hx hb dX1_merge_31 rfl (lv_at hl 3 rfl) ?_
          refine pm_g_ho M C dX1_merge_32 ?_
          refine lv_iload hx hb dX1_merge_35 (lv_at hl 0 rfl) ?_
          refine pm_l_ho M C (by omega) dX1_merge_37 ?_
          refine pz_zle (tgt := 50) M (by omega) dX1_merge_38 (by decide) (fun h38 => ?_) (fun h38 => ?_)
          · refine lv_iload_n hx hb dX1_merge_50 rfl (lv_at hl 1 rfl) ?_
            refine lv_iconst (v := (-1)) hx hb dX1_merge_51 (by decide +kernel) ?_
            refine lv_ixor hx hb dX1_merge_52 ?_
            refine lv_istore (lv' := [(5, _), (4, _), (3, _), (2, _), (0, _), (1, _)]) hx hb dX1_merge_53 hl (by decide) rfl (fun ls hl => ?_)
            exact j55 _ (fun e => absurd e (pz_xor h3)) _ _ C _ (lv_sub hl [0, 1, 2, 3, 4, 5] rfl)
          · refine lv_aload_n hx hb dX1_merge_41 rfl (lv_at hl 3 rfl) ?_
            refine lv_iload hx hb dX1_merge_42 (lv_at hl 0 rfl) ?_
            refine pz_calli M hA C rfl rfl iX1_94 (mtX1_hashOf hf16) ⟨Nat.le_of_ble_eq_true rfl, Nat.le_of_ble_eq_true rfl⟩ ⟨rfl, rfl⟩ rfl hl.1 rfl (Nat.le_of_ble_eq_true rfl) dX1_merge_44 ⟨Nat.le_of_ble_eq_true rfl, Nat.le_of_ble_eq_true rfl⟩ (fun r u H locs hp C => ?_)
            obtain rfl := hp
            refine lv_goto (tgt := 53) hx hb dX1_merge_47 (by decide) ?_
            refine lv_istore (lv' := [(5, _), (4, _), (3, _), (2, _), (0, _), (1, _)]) hx hb dX1_merge_53 hl (by decide) rfl (fun ls hl => ?_)
            exact j55 _ (fun _ => h28) _ _ C _ (lv_sub hl [0, 1, 2, 3, 4, 5] rfl)
  refine lv_aload_n hx hb dX1_merge_0 rfl (lv_at hl 0 rfl) ?_
  refine pm_g_wh M C dX1_merge_1 ?_
  refine lv_iload_n hx hb dX1_merge_4 rfl (lv_at hl 1 rfl) ?_
  refine pm_l_wh M C (by omega) dX1_merge_5 ?_
  refine lv_istore_n (lv' := [(2, _), (0, _), (1, _)]) hx hb dX1_merge_6 rfl hl (by decide) rfl (fun ls hl => ?_)
  refine lv_aload_n hx hb dX1_merge_7 rfl (lv_at hl 1 rfl) ?_
  refine lv_iload_n hx hb dX1_merge_8 rfl (lv_at hl 0 rfl) ?_
  refine pz_calli M hA C rfl rfl iX1_94 (mtX1_hashOf g3) ⟨Nat.le_of_ble_eq_true rfl, Nat.le_of_ble_eq_true rfl⟩ ⟨rfl, rfl⟩ rfl hl.1 rfl (Nat.le_of_ble_eq_true rfl) dX1_merge_9 ⟨Nat.le_of_ble_eq_true rfl, Nat.le_of_ble_eq_true rfl⟩ (fun r u H locs hp C => ?_)
  obtain rfl := hp
  refine lv_istore_n (lv' := [(3, _), (2, _), (0, _), (1, _)]) hx hb dX1_merge_12 rfl hl (by decide) rfl (fun ls hl => ?_)
  refine lv_iconst (v := nI 0) hx hb dX1_merge_13 (by decide +kernel) ?_
  refine lv_istore (lv' := [(4, _), (3, _), (2, _), (0, _), (1, _)]) hx hb dX1_merge_14 hl (by decide) rfl (fun ls hl => ?_)
  exact lp _ (fr + 1) 0 wh ho (by omega) (by omega) I0 (ps_Eq_rf _) _ _ C _ (lv_sub hl [0, 1, 2, 3, 4] rfl)
set_option maxHeartbeats 4000000 in
set_option maxRecDepth 100000 in
/-- scan(n): nothing of what is asked changes -/
theorem mtX1_scan {l : Launch} {g : pz_G} {ad : Nat → Nat} {σ : pm_S} {μ : md_S} {x1 : Int32} (R : pm_Rl σ μ) : pz_Mv l yX1_scan cX1_scan 4 ({ frames := 6, cells := 0, slots := 0, locals := 144 }) (pm_W g ad) g σ [.ref (ad 0), .int x1] (fun u => pm_Rl u μ) := by
  refine pz_enterV (by decide) (Nat.le_of_ble_eq_true rfl) ?_
  intro p e s m args below meth c A Q M hA ret C ls hl
  have hx := M.1
  have hb := M.2.1
  have hl : lv_has ls 4 [(0, .ref (ad 0)), (1, .int x1)] := hl
  have lp : ∀ (k i : Nat) (fr hd sc : Nat) (fo wh : Nat → Nat) (to : Nat → Bool) (ho : Nat → Nat) (me : Nat → Int32) (ru : Nat → Bool) (rl : Nat → Nat) (fv sv : Nat → Int32) (au : Nat → Bool) (ai : Nat → Int32), i ≤ 24 → 25 ≤ i + k → pm_Rl (fr, hd, sc, fo, wh, to, ho, me, ru, rl, fv, sv, au, ai) μ → ∀ (H : Heap) (locs : List Loc), pz_C (pm_W g ad) g A s (fr, hd, sc, fo, wh, to, ho, me, ru, rl, fv, sv, au, ai) H locs → ∀ ls : Array Slot, lv_has ls 4 [(2, .int (nI i)), (0, .ref (ad 0)), (1, .int x1)] → W p l e ({ frames := 6, cells := 0, slots := 0, locals := 144 }) s m args below meth c H locs 0 0 Q (F0 m 2 ls []) := by
    intro k
    induction k with
    | zero => intro i fr hd sc fo wh to ho me ru rl fv sv au ai _ h; omega
    | succ k ih =>
      intro i fr hd sc fo wh to ho me ru rl fv sv au ai hi hk R H locs C ls hl
      refine lv_iload_n hx hb dX1_scan_2 rfl (lv_at hl 0 rfl) ?_
      refine lv_iload_n hx hb dX1_scan_3 rfl (lv_at hl 2 rfl) ?_
      refine lv_icmp_ge (tgt := 85) hx hb dX1_scan_4 (by decide) (fun h4 => ?_) (fun h4 => ?_)
      · exact ret _ _ _ _ _ C dX1_scan_85 R
      · refine lv_iload_n hx hb dX1_scan_7 rfl (lv_at hl 0 rfl) ?_
        refine lv_bipush (v := nI 24) hx hb dX1_scan_8 (by decide +kernel) ?_
        refine pz_cge (tgt := 85) M (by omega) (by omega) dX1_scan_10 (by decide) (fun h10 => ?_) (fun h10 => ?_)
        · exact ret _ _ _ _ _ C dX1_scan_85 R
        · have I1 : pm_I fr hd sc fo wh ho rl ru au := R.1
          have h24 : sc < 24 := I1.1.2.2.2
          have js := I1.2.1 sc h24
          refine lv_aload_n hx hb dX1_scan_13 rfl (lv_at hl 1 rfl) ?_
          refine pm_g_sc M C dX1_scan_14 ?_
          refine lv_istore_n (lv' := [(3, _), (2, _), (0, _), (1, _)]) hx hb dX1_scan_17 rfl hl (by decide) rfl (fun ls hl => ?_)
          have j79 : ∀ u : pm_S, pm_Rl u μ → ∀ (H : Heap) (locs : List Loc), pz_C (pm_W g ad) g A s u H locs → ∀ ls : Array Slot, lv_has ls 4 [(2, .int (nI i)), (0, .ref (ad 0)), (1, .int x1)] → W p l e ({ frames := 6, cells := 0, slots := 0, locals := 144 }) s m args below meth c H locs 0 0 Q (F0 m 79 ls []) := by
            intro u R1 H locs C ls hl
            obtain ⟨fr1, hd1, sc1, fo1, wh1, to1, ho1, me1, ru1, rl1, fv1, sv1, au1, ai1⟩ := u
            refine pz_iinc1 (k := 0) (lv' := [(2, _), (0, _), (1, _)]) M dX1_scan_79 hl rfl (by decide) rfl (fun ls hl => ?_)
            refine lv_goto (tgt := 2) hx hb dX1_scan_82 (by decide) ?_
            exact ih (i + 1) _ _ _ _ _ _ _ _ _ _ _ _ _ _ (by omega) (by omega) R1 _ _ C _ (lv_sub hl [0, 1, 2] rfl)
          have j72 : ∀ u : pm_S, pm_Rl u μ → ∀ (H : Heap) (locs : List Loc), pz_C (pm_W g ad) g A s u H locs → ∀ ls : Array Slot, lv_has ls 4 [(3, .int (nI sc)), (2, .int (nI i)), (0, .ref (ad 0)), (1, .int x1)] → W p l e ({ frames := 6, cells := 0, slots := 0, locals := 144 }) s m args below meth c H locs 0 0 Q (F0 m 72 ls []) := by
            intro u R1 H locs C ls hl
            obtain ⟨fr1, hd1, sc1, fo1, wh1, to1, ho1, me1, ru1, rl1, fv1, sv1, au1, ai1⟩ := u
            refine lv_aload_n hx hb dX1_scan_72 rfl (lv_at hl 2 rfl) ?_
            refine pm_g_to M C dX1_scan_73 ?_
            refine lv_iload_n hx hb dX1_scan_76 rfl (lv_at hl 0 rfl) ?_
            refine lv_iconst (v := pz_b false) hx hb dX1_scan_77 (by decide +kernel) ?_
            refine pm_s_to M C (by omega) dX1_scan_78 (fun H locs C => ?_)
            exact j79 (fr1, hd1, sc1, fo1, wh1, va_up to1 sc false, ho1, me1, ru1, rl1, fv1, sv1, au1, ai1) R1 _ _ C _ (lv_sub hl [1, 2, 3] rfl)
          have j43 : ∀ sc' : Nat, sc' < 24 → ∀ (H : Heap) (locs : List Loc), pz_C (pm_W g ad) g A s (fr, hd, sc', fo, wh, to, ho, me, ru, rl, fv, sv, au, ai) H locs → ∀ ls : Array Slot, lv_has ls 4 [(3, .int (nI sc)), (2, .int (nI i)), (0, .ref (ad 0)), (1, .int x1)] → W p l e ({ frames := 6, cells := 0, slots := 0, locals := 144 }) s m args below meth c H locs 0 0 Q (F0 m 43 ls []) := by
            intro sc' hsc H locs C ls hl
            have R1 : pm_Rl (fr, hd, sc', fo, wh, to, ho, me, ru, rl, fv, sv, au, ai) μ := ⟨I_sc I1 hsc, R.2⟩
            refine lv_aload_n hx hb dX1_scan_43 rfl (lv_at hl 2 rfl) ?_
            refine pm_g_fo M C dX1_scan_44 ?_
            refine lv_iload_n hx hb dX1_scan_47 rfl (lv_at hl 0 rfl) ?_
            refine pm_l_fo M C (by omega) dX1_scan_48 ?_
            refine lv_iconst (v := nI 1) hx hb dX1_scan_49 (by decide +kernel) ?_
            refine pz_cne (tgt := 79) M (by omega) (by omega) dX1_scan_50 (by decide) (fun h50 => ?_) (fun h50 => ?_)
            · exact j79 _ R1 _ _ C _ (lv_sub hl [1, 2, 3] rfl)
            · refine lv_aload_n hx hb dX1_scan_53 rfl (lv_at hl 2 rfl) ?_
              refine lv_iload_n hx hb dX1_scan_54 rfl (lv_at hl 0 rfl) ?_
              refine pz_callv M hA C rfl rfl iX1_104 (mtX1_merge R1.1 h24 h50) ⟨Nat.le_of_ble_eq_true rfl, Nat.le_of_ble_eq_true rfl⟩ ⟨rfl, rfl⟩ rfl hl.1 rfl (Nat.le_of_ble_eq_true rfl) dX1_scan_55 ⟨Nat.le_of_ble_eq_true rfl, Nat.le_of_ble_eq_true rfl⟩ (fun u H locs hp C => ?_)
              obtain ⟨fr1, hd1, sc1, fo1, wh1, to1, ho1, me1, ru1, rl1, fv1, sv1, au1, ai1⟩ := u
              obtain ⟨I2, E2, e3, -, -⟩ := hp
              have R2 := Rl_Eq R1 I2 E2
              have e3 : fo1 = fo := e3
              have f1 : fo1 sc = 1 := by rw [e3]; exact h50
              refine lv_aload_n hx hb dX1_scan_58 rfl (lv_at hl 2 rfl) ?_
              refine pm_g_to M C dX1_scan_59 ?_
              refine lv_iload_n hx hb dX1_scan_62 rfl (lv_at hl 0 rfl) ?_
              refine pm_l_to M C (by omega) dX1_scan_63 ?_
              refine pz_bne (tgt := 72) M dX1_scan_64 (by decide) (fun h64 => ?_) (fun h64 => ?_)
              · exact j72 _ R2 _ _ C _ (lv_sub hl [0, 1, 2, 3] rfl)
              · refine lv_aload_n hx hb dX1_scan_67 rfl (lv_at hl 2 rfl) ?_
                refine lv_iload_n hx hb dX1_scan_68 rfl (lv_at hl 0 rfl) ?_
                refine pz_callv M hA C rfl rfl iX1_74 (mtX1_evict I2 h24 f1) ⟨Nat.le_of_ble_eq_true rfl, Nat.le_of_ble_eq_true rfl⟩ ⟨rfl, rfl⟩ rfl hl.1 rfl (Nat.le_of_ble_eq_true rfl) dX1_scan_69 ⟨Nat.le_of_ble_eq_true rfl, Nat.le_of_ble_eq_true rfl⟩ (fun u H locs hp C => ?_)
                exact j72 _ (Rl_Eq R2 hp.1 hp.2.1) _ _ C _ (lv_sub hl [0, 1, 2, 3] rfl)
          refine lv_aload_n hx hb dX1_scan_18 rfl (lv_at hl 2 rfl) ?_
          refine lv_aload_n hx hb dX1_scan_19 rfl (lv_at hl 2 rfl) ?_
          refine pm_g_sc M C dX1_scan_20 ?_
          refine lv_iconst (v := nI 1) hx hb dX1_scan_23 (by decide +kernel) ?_
          refine pz_iaddN M dX1_scan_24 ?_
          refine lv_bipush (v := nI 24) hx hb dX1_scan_25 (by decide +kernel) ?_
          refine pz_cge (tgt := 39) M (by omega) (by omega) dX1_scan_27 (by decide) (fun h27 => ?_) (fun h27 => ?_)
          · refine lv_iconst (v := nI 0) hx hb dX1_scan_39 (by decide +kernel) ?_
            refine pm_p_sc M C dX1_scan_40 (fun H locs C => ?_)
            exact j43 _ (by omega) _ _ C _ (lv_sub hl [0, 1, 2, 3] rfl)
          · refine lv_aload_n hx hb dX1_scan_30 rfl (lv_at hl 2 rfl) ?_
            refine pm_g_sc M C dX1_scan_31 ?_
            refine lv_iconst (v := nI 1) hx hb dX1_scan_34 (by decide +kernel) ?_
            refine pz_iaddN M dX1_scan_35 ?_
            refine lv_goto (tgt := 40) hx hb dX1_scan_36 (by decide) ?_
            refine pm_p_sc M C dX1_scan_40 (fun H locs C => ?_)
            exact j43 _ (by omega) _ _ C _ (lv_sub hl [0, 1, 2, 3] rfl)
  obtain ⟨fr, hd, sc, fo, wh, to, ho, me, ru, rl, fv, sv, au, ai⟩ := σ
  refine lv_iconst (v := nI 0) hx hb dX1_scan_0 (by decide +kernel) ?_
  refine lv_istore_n (lv' := [(2, _), (0, _), (1, _)]) hx hb dX1_scan_1 rfl hl (by decide) rfl (fun ls hl => ?_)
  exact lp 25 0 _ _ _ _ _ _ _ _ _ _ _ _ _ _ (by omega) (by omega) R _ _ C _ (lv_sub hl [0, 1, 2] rfl)
end
section
/-! PageMergerModel -/
set_option maxRecDepth 100000
theorem fl_0 {f : Nat → Int32} {k : Nat} {v : Int32} : ∀ i, f i = if i / 4 = k ∧ i % 4 < 0 then v else f i := by
  intro i
  rw [if_neg (by omega)]
theorem fl_s {f f' : Nat → Int32} {k j : Nat} {v : Int32} (h : ∀ i, f' i = if i / 4 = k ∧ i % 4 < j then v else f i) (hj : j < 4) : ∀ i, va_up f' (k * 4 + j) v i = if i / 4 = k ∧ i % 4 < j + 1 then v else f i := by
  intro i
  by_cases e : i = k * 4 + j
  · rw [e, va_up_self, if_pos (by omega)]
  · rw [va_up_ne _ _ e, h i]
    by_cases e2 : i / 4 = k ∧ i % 4 < j
    · rw [if_pos e2, if_pos (by omega)]
    · rw [if_neg e2, if_neg (by omega)]
theorem fl_4 {f f' : Nat → Int32} {k j : Nat} {v : Int32} (h : ∀ i, f' i = if i / 4 = k ∧ i % 4 < j then v else f i) (hj : 4 ≤ j) : f' = md_fl f k v := by
  funext i
  rw [h i]
  unfold md_fl
  by_cases e2 : i / 4 = k
  · rw [if_pos (by omega), if_pos e2]
  · rw [if_neg (by omega), if_neg e2]
theorem cp_0 {f : Nat → Int32} {a b : Nat} : ∀ i, f i = if i / 4 = b ∧ i % 4 < 0 then f (a * 4 + i % 4) else f i := by
  intro i
  rw [if_neg (by omega)]
theorem cp_s {f f' : Nat → Int32} {a b j : Nat} (h : ∀ i, f' i = if i / 4 = b ∧ i % 4 < j then f (a * 4 + i % 4) else f i) (hj : j < 4) : ∀ i, va_up f' (b * 4 + j) (f' (a * 4 + j)) i = if i / 4 = b ∧ i % 4 < j + 1 then f (a * 4 + i % 4) else f i := by
  intro i
  by_cases e : i = b * 4 + j
  · rw [e, va_up_self, if_pos (by omega), h, if_neg (by omega), show (b * 4 + j) % 4 = j by omega]
  · rw [va_up_ne _ _ e, h i]
    by_cases e2 : i / 4 = b ∧ i % 4 < j
    · rw [if_pos e2, if_pos (by omega)]
    · rw [if_neg e2, if_neg (by omega)]
theorem cp_4 {f f' : Nat → Int32} {a b j : Nat} (h : ∀ i, f' i = if i / 4 = b ∧ i % 4 < j then f (a * 4 + i % 4) else f i) (hj : 4 ≤ j) : f' = md_cp f a b := by
  funext i
  rw [h i]
  unfold md_cp
  by_cases e2 : i / 4 = b
  · rw [if_pos (by omega), if_pos e2]
  · rw [if_neg (by omega), if_neg e2]
theorem sw_0 {f : Nat → Int32} {a b : Nat} : ∀ i, f i = if i % 4 < 0 then md_sw f a b i else f i := by
  intro i
  rw [if_neg (by omega)]
theorem sw_s {f f' : Nat → Int32} {a b j : Nat} (h : ∀ i, f' i = if i % 4 < j then md_sw f a b i else f i) (hj : j < 4) : ∀ i, va_up (va_up f' (a * 4 + j) (f' (b * 4 + j))) (b * 4 + j) (f' (a * 4 + j)) i = if i % 4 < j + 1 then md_sw f a b i else f i := by
  intro i
  have ea : f' (a * 4 + j) = f (a * 4 + j) := by rw [h, if_neg (by omega)]
  have eb : f' (b * 4 + j) = f (b * 4 + j) := by rw [h, if_neg (by omega)]
  rw [ea, eb]
  by_cases e : i = b * 4 + j
  · rw [e, va_up_self, if_pos (by omega)]
    unfold md_sw
    rw [if_pos (by omega), show (b * 4 + j) % 4 = j by omega]
  · rw [va_up_ne _ _ e]
    by_cases e3 : i = a * 4 + j
    · rw [e3, va_up_self, if_pos (by omega)]
      unfold md_sw
      rw [if_neg (by omega), if_pos (by omega), show (a * 4 + j) % 4 = j by omega]
    · rw [va_up_ne _ _ e3, h i]
      by_cases e2 : i % 4 < j
      · rw [if_pos e2, if_pos (by omega)]
      · rw [if_neg e2]
        by_cases e4 : i % 4 < j + 1
        · rw [if_pos e4]
          unfold md_sw
          rw [if_neg (by omega), if_neg (by omega)]
        · rw [if_neg e4]
theorem sw_4 {f f' : Nat → Int32} {a b j : Nat} (h : ∀ i, f' i = if i % 4 < j then md_sw f a b i else f i) (hj : 4 ≤ j) : f' = md_sw f a b := by
  funext i
  rw [h i, if_pos (by omega)]
theorem sm_1 {f : Nat → Int32} {a b : Nat} (h : ∀ w, w < 4 → f (a * 4 + w) = f (b * 4 + w)) : 1 = pz_b (md_sm f a b) := by
  rw [sm_iff.mpr h]
  rfl
theorem sm_2 {f : Nat → Int32} {a b w : Nat} (hw : w < 4) (h : ¬ f (a * 4 + w) = f (b * 4 + w)) : 0 = pz_b (md_sm f a b) := by
  rw [b_not (fun e => h (sm_iff.mp e w hw))]
  rfl
/-- the sum, place by place -/
theorem su_F (f : Nat → Int32) (re : Nat → Bool) (x : Int32) : ∃ F : Nat → Int32, F 0 = 0 ∧ (∀ i, i < 96 → nI (i / 32) = x → F (i + 1) = F i + f i) ∧ (∀ i, i < 96 → ¬ nI (i / 32) = x → F (i + 1) = F i) ∧ F 96 = mu_r (f, re) x := by
  by_cases h : ∃ k, k < 3 ∧ x = nI k
  · obtain ⟨g, hg, rfl⟩ := h
    refine ⟨fun i => md_sg f (g * 32) (min (i - g * 32) 32), ?_, fun i hi e => ?_, fun i hi e => ?_, ?_⟩
    · show md_sg f (g * 32) (min (0 - g * 32) 32) = 0
      rw [show min (0 - g * 32) 32 = 0 by omega]
      rfl
    · have e := (nI_eq (by omega) (by omega)).mp e
      show md_sg f (g * 32) (min (i + 1 - g * 32) 32) = md_sg f (g * 32) (min (i - g * 32) 32) + f i
      rw [show min (i + 1 - g * 32) 32 = min (i - g * 32) 32 + 1 by omega]
      show md_sg f (g * 32) (min (i - g * 32) 32) + f (g * 32 + min (i - g * 32) 32) = _
      rw [show g * 32 + min (i - g * 32) 32 = i by omega]
    · have e : ¬ i / 32 = g := fun q => e (by rw [q])
      show md_sg f (g * 32) (min (i + 1 - g * 32) 32) = md_sg f (g * 32) (min (i - g * 32) 32)
      rw [show min (i + 1 - g * 32) 32 = min (i - g * 32) 32 by omega]
    · rw [mu_2 hg]
      show md_sg f (g * 32) (min (96 - g * 32) 32) = md_sg f (g * 32) 32
      rw [show min (96 - g * 32) 32 = 32 by omega]
  · exact ⟨fun _ => 0, rfl, fun i hi e => absurd ⟨i / 32, by omega, e.symm⟩ h, fun _ _ _ => rfl, (mu_1 h).symm⟩
theorem one_0 (f : Nat → Int32) (p : Nat) : true = true ↔ ∀ v, v < 1 → f (p * 4 + v) = f (p * 4) := ⟨fun _ v hv => by rw [show v = 0 by omega]; rfl, fun _ => rfl⟩
theorem one_s {f : Nat → Int32} {p j : Nat} {o o' : Bool} (h : o = true ↔ ∀ v, v < j → f (p * 4 + v) = f (p * 4)) (h2 : o' = true ↔ o = true ∧ f (p * 4 + j) = f (p * 4)) : o' = true ↔ ∀ v, v < j + 1 → f (p * 4 + v) = f (p * 4) := by
  rw [h2, h]
  constructor
  · rintro ⟨a, b⟩ v hv
    by_cases e : v = j
    · rw [e]; exact b
    · exact a v (by omega)
  · intro a
    exact ⟨fun v hv => a v (by omega), a j (by omega)⟩
set_option maxHeartbeats 4000000 in
set_option maxRecDepth 100000 in
/-- isPage(p): 1 if p is a page -/
theorem mtX2_isPage {l : Launch} {g : pz_G} {ad : Nat → Nat} {μ : md_S} {x0 : Int32}  : pz_Mi l yX2_isPage cX2_isPage 2 .boolean ({ frames := 0, cells := 0, slots := 0, locals := 0 }) (md_W g ad) g μ [.ref (ad 0), .int x0] (fun r u => u = μ ∧ ((pz_isP x0 ∧ r = 1) ∨ (¬ pz_isP x0 ∧ r = 0))) := by
  obtain ⟨wd, re⟩ := μ
  refine pz_enterI (by decide) (Nat.le_of_ble_eq_true rfl) ?_
  intro p e s m args below meth c A Q M hA ret C ls hl
  have hx := M.1
  have hb := M.2.1
  have hl : lv_has ls 2 [(0, .ref (ad 0)), (1, .int x0)] := hl
  refine lv_iload_n hx hb dX2_isPage_0 rfl (lv_at hl 1 rfl) ?_
  refine lv_if_lt (tgt := 14) hx hb dX2_isPage_1 (by decide) (fun h1 => ?_) (fun h1 => ?_)
  · refine lv_iconst (v := 0) hx hb dX2_isPage_14 (by decide +kernel) ?_
    exact ret _ _ _ _ _ _ C dX2_isPage_15 rfl ⟨rfl, Or.inr ⟨pz_no1 (by decide) h1, rfl⟩⟩
  · refine lv_iload_n hx hb dX2_isPage_4 rfl (lv_at hl 1 rfl) ?_
    refine lv_bipush (v := nI 24) hx hb dX2_isPage_5 (by decide +kernel) ?_
    refine lv_icmp_ge (tgt := 14) hx hb dX2_isPage_7 (by decide) (fun h7 => ?_) (fun h7 => ?_)
    · refine lv_iconst (v := 0) hx hb dX2_isPage_14 (by decide +kernel) ?_
      exact ret _ _ _ _ _ _ C dX2_isPage_15 rfl ⟨rfl, Or.inr ⟨pz_no2 (by decide) (fun e => absurd h7 (Int32.not_le.mpr e)), rfl⟩⟩
    · refine lv_iconst (v := 1) hx hb dX2_isPage_10 (by decide +kernel) ?_
      refine lv_goto (tgt := 15) hx hb dX2_isPage_11 (by decide) ?_
      exact ret _ _ _ _ _ _ C dX2_isPage_15 rfl ⟨rfl, Or.inl ⟨pz_in_of (by decide) h1 (Int32.not_le.mp h7), rfl⟩⟩
set_option maxHeartbeats 4000000 in
set_option maxRecDepth 100000 in
/-- write -/
theorem mtX2_write {l : Launch} {g : pz_G} {ad : Nat → Nat} {μ : md_S} {x1 x2 x3 : Int32}  : pz_Mi l yX2_write cX2_write 5 .int ({ frames := 4, cells := 0, slots := 0, locals := 120 }) (md_W g ad) g μ [.ref (ad 0), .int x1, .int x2, .int x3] (fun r u => r = mw_r μ x1 x2 ∧ u = mw_s μ x1 x2 x3) := by
  obtain ⟨wd, re⟩ := μ
  refine pz_enterI (by decide) (Nat.le_of_ble_eq_true rfl) ?_
  intro p e s m args below meth c A Q M hA ret C ls hl
  have hx := M.1
  have hb := M.2.1
  have hl : lv_has ls 5 [(0, .ref (ad 0)), (1, .int x1), (2, .int x2), (3, .int x3)] := hl
  refine lv_aload_n hx hb dX2_write_0 rfl (lv_at hl 0 rfl) ?_
  refine lv_iload_n hx hb dX2_write_1 rfl (lv_at hl 1 rfl) ?_
  refine pz_calli M hA C rfl rfl iX2_17 mtX2_isPage ⟨Nat.le_of_ble_eq_true rfl, Nat.le_of_ble_eq_true rfl⟩ ⟨rfl, rfl⟩ rfl hl.1 rfl (Nat.le_of_ble_eq_true rfl) dX2_write_2 ⟨Nat.le_of_ble_eq_true rfl, Nat.le_of_ble_eq_true rfl⟩ (fun r u H locs hp C => ?_)
  obtain ⟨rfl, hp⟩ := hp
  rcases hp with ⟨⟨k1, hk1, rfl⟩, rfl⟩ | ⟨hn1, rfl⟩
  · refine lv_if_ne (tgt := 10) hx hb dX2_write_5 (by decide) (fun h5 => ?_) (fun h5 => ?_)
    · refine lv_iload_n hx hb dX2_write_10 rfl (lv_at hl 2 rfl) ?_
      refine lv_if_lt (tgt := 19) hx hb dX2_write_11 (by decide) (fun h11 => ?_) (fun h11 => ?_)
      · refine lv_bipush (v := (-2)) hx hb dX2_write_19 (by decide +kernel) ?_
        exact ret _ _ _ _ _ _ C dX2_write_21 rfl ⟨(mw_r2 hk1 (pz_no1 (by decide) h11)).symm, (mw_s2 hk1 (pz_no1 (by decide) h11)).symm⟩
      · refine lv_iload_n hx hb dX2_write_14 rfl (lv_at hl 2 rfl) ?_
        refine lv_iconst (v := nI 3) hx hb dX2_write_15 (by decide +kernel) ?_
        refine lv_icmp_le (tgt := 22) hx hb dX2_write_16 (by decide) (fun h16 => ?_) (fun h16 => ?_)
        · obtain ⟨j, hj, rfl⟩ := pz_in_le (by decide) h11 h16
          refine lv_aload_n hx hb dX2_write_22 rfl (lv_at hl 0 rfl) ?_
          refine md_g_wd M C dX2_write_23 ?_
          refine lv_iload_n hx hb dX2_write_26 rfl (lv_at hl 1 rfl) ?_
          refine lv_iconst (v := nI 4) hx hb dX2_write_27 (by decide +kernel) ?_
          refine pz_imulN M dX2_write_28 ?_
          refine lv_iload_n hx hb dX2_write_29 rfl (lv_at hl 2 rfl) ?_
          refine pz_iaddN M dX2_write_30 ?_
          refine md_l_wd M C (by omega) dX2_write_31 ?_
          refine lv_istore (lv' := [(4, _), (0, _), (1, _), (2, _), (3, _)]) hx hb dX2_write_32 hl (by decide) rfl (fun ls hl => ?_)
          refine lv_aload_n hx hb dX2_write_34 rfl (lv_at hl 1 rfl) ?_
          refine md_g_wd M C dX2_write_35 ?_
          refine lv_iload_n hx hb dX2_write_38 rfl (lv_at hl 2 rfl) ?_
          refine lv_iconst (v := nI 4) hx hb dX2_write_39 (by decide +kernel) ?_
          refine pz_imulN M dX2_write_40 ?_
          refine lv_iload_n hx hb dX2_write_41 rfl (lv_at hl 3 rfl) ?_
          refine pz_iaddN M dX2_write_42 ?_
          refine lv_iload_n hx hb dX2_write_43 rfl (lv_at hl 4 rfl) ?_
          refine md_s_wd M C (by omega) dX2_write_44 (fun H locs C => ?_)
          refine lv_aload_n hx hb dX2_write_45 rfl (lv_at hl 1 rfl) ?_
          refine md_g_re M C dX2_write_46 ?_
          refine lv_iload_n hx hb dX2_write_49 rfl (lv_at hl 2 rfl) ?_
          refine lv_iconst (v := pz_b false) hx hb dX2_write_50 (by decide +kernel) ?_
          refine md_s_re M C (by omega) dX2_write_51 (fun H locs C => ?_)
          refine lv_iload hx hb dX2_write_52 (lv_at hl 0 rfl) ?_
          exact ret _ _ _ _ _ _ C dX2_write_54 rfl ⟨(mw_r3 (μ := (wd, re)) hk1 hj).symm, (mw_s3 (μ := (wd, re)) hk1 hj).symm⟩
        · refine lv_bipush (v := (-2)) hx hb dX2_write_19 (by decide +kernel) ?_
          exact ret _ _ _ _ _ _ C dX2_write_21 rfl ⟨(mw_r2 hk1 (pz_no3 (by decide) h16)).symm, (mw_s2 hk1 (pz_no3 (by decide) h16)).symm⟩
    · exact absurd h5 (by decide +kernel)
  · refine lv_if_ne (tgt := 10) hx hb dX2_write_5 (by decide) (fun h5 => ?_) (fun h5 => ?_)
    · exact absurd rfl h5
    · refine lv_iconst (v := (-1)) hx hb dX2_write_8 (by decide +kernel) ?_
      exact ret _ _ _ _ _ _ C dX2_write_9 rfl ⟨(mw_r1 hn1).symm, (mw_s1 hn1).symm⟩
set_option maxHeartbeats 4000000 in
set_option maxRecDepth 100000 in
/-- read -/
theorem mtX2_read {l : Launch} {g : pz_G} {ad : Nat → Nat} {μ : md_S} {x1 x2 : Int32}  : pz_Mi l yX2_read cX2_read 3 .int ({ frames := 4, cells := 0, slots := 0, locals := 120 }) (md_W g ad) g μ [.ref (ad 0), .int x1, .int x2] (fun r u => r = mw_r μ x1 x2 ∧ u = μ) := by
  obtain ⟨wd, re⟩ := μ
  refine pz_enterI (by decide) (Nat.le_of_ble_eq_true rfl) ?_
  intro p e s m args below meth c A Q M hA ret C ls hl
  have hx := M.1
  have hb := M.2.1
  have hl : lv_has ls 3 [(0, .ref (ad 0)), (1, .int x1), (2, .int x2)] := hl
  refine lv_aload_n hx hb dX2_read_0 rfl (lv_at hl 0 rfl) ?_
  refine lv_iload_n hx hb dX2_read_1 rfl (lv_at hl 1 rfl) ?_
  refine pz_calli M hA C rfl rfl iX2_17 mtX2_isPage ⟨Nat.le_of_ble_eq_true rfl, Nat.le_of_ble_eq_true rfl⟩ ⟨rfl, rfl⟩ rfl hl.1 rfl (Nat.le_of_ble_eq_true rfl) dX2_read_2 ⟨Nat.le_of_ble_eq_true rfl, Nat.le_of_ble_eq_true rfl⟩ (fun r u H locs hp C => ?_)
  obtain ⟨rfl, hp⟩ := hp
  rcases hp with ⟨⟨k1, hk1, rfl⟩, rfl⟩ | ⟨hn1, rfl⟩
  · refine lv_if_ne (tgt := 10) hx hb dX2_read_5 (by decide) (fun h5 => ?_) (fun h5 => ?_)
    · refine lv_iload_n hx hb dX2_read_10 rfl (lv_at hl 2 rfl) ?_
      refine lv_if_lt (tgt := 19) hx hb dX2_read_11 (by decide) (fun h11 => ?_) (fun h11 => ?_)
      · refine lv_bipush (v := (-2)) hx hb dX2_read_19 (by decide +kernel) ?_
        refine lv_goto (tgt := 34) hx hb dX2_read_21 (by decide) ?_
        exact ret _ _ _ _ _ _ C dX2_read_34 rfl ⟨(mw_r2 hk1 (pz_no1 (by decide) h11)).symm, rfl⟩
      · refine lv_iload_n hx hb dX2_read_14 rfl (lv_at hl 2 rfl) ?_
        refine lv_iconst (v := nI 3) hx hb dX2_read_15 (by decide +kernel) ?_
        refine lv_icmp_le (tgt := 24) hx hb dX2_read_16 (by decide) (fun h16 => ?_) (fun h16 => ?_)
        · obtain ⟨j, hj, rfl⟩ := pz_in_le (by decide) h11 h16
          refine lv_aload_n hx hb dX2_read_24 rfl (lv_at hl 0 rfl) ?_
          refine md_g_wd M C dX2_read_25 ?_
          refine lv_iload_n hx hb dX2_read_28 rfl (lv_at hl 1 rfl) ?_
          refine lv_iconst (v := nI 4) hx hb dX2_read_29 (by decide +kernel) ?_
          refine pz_imulN M dX2_read_30 ?_
          refine lv_iload_n hx hb dX2_read_31 rfl (lv_at hl 2 rfl) ?_
          refine pz_iaddN M dX2_read_32 ?_
          refine md_l_wd M C (by omega) dX2_read_33 ?_
          exact ret _ _ _ _ _ _ C dX2_read_34 rfl ⟨(mw_r3 (μ := (wd, re)) hk1 hj).symm, rfl⟩
        · refine lv_bipush (v := (-2)) hx hb dX2_read_19 (by decide +kernel) ?_
          refine lv_goto (tgt := 34) hx hb dX2_read_21 (by decide) ?_
          exact ret _ _ _ _ _ _ C dX2_read_34 rfl ⟨(mw_r2 hk1 (pz_no3 (by decide) h16)).symm, rfl⟩
    · exact absurd h5 (by decide +kernel)
  · refine lv_if_ne (tgt := 10) hx hb dX2_read_5 (by decide) (fun h5 => ?_) (fun h5 => ?_)
    · exact absurd rfl h5
    · refine lv_iconst (v := (-1)) hx hb dX2_read_8 (by decide +kernel) ?_
      exact ret _ _ _ _ _ _ C dX2_read_9 rfl ⟨(mw_r1 hn1).symm, rfl⟩
set_option maxHeartbeats 4000000 in
set_option maxRecDepth 100000 in
/-- fill -/
theorem mtX2_fill {l : Launch} {g : pz_G} {ad : Nat → Nat} {μ : md_S} {x1 x2 : Int32}  : pz_Mi l yX2_fill cX2_fill 4 .int ({ frames := 4, cells := 0, slots := 0, locals := 120 }) (md_W g ad) g μ [.ref (ad 0), .int x1, .int x2] (fun r u => r = mf_r x1 ∧ u = mf_s μ x1 x2) := by
  obtain ⟨wd, re⟩ := μ
  refine pz_enterI (by decide) (Nat.le_of_ble_eq_true rfl) ?_
  intro p e s m args below meth c A Q M hA ret C ls hl
  have hx := M.1
  have hb := M.2.1
  have hl : lv_has ls 4 [(0, .ref (ad 0)), (1, .int x1), (2, .int x2)] := hl
  refine lv_aload_n hx hb dX2_fill_0 rfl (lv_at hl 0 rfl) ?_
  refine lv_iload_n hx hb dX2_fill_1 rfl (lv_at hl 1 rfl) ?_
  refine pz_calli M hA C rfl rfl iX2_17 mtX2_isPage ⟨Nat.le_of_ble_eq_true rfl, Nat.le_of_ble_eq_true rfl⟩ ⟨rfl, rfl⟩ rfl hl.1 rfl (Nat.le_of_ble_eq_true rfl) dX2_fill_2 ⟨Nat.le_of_ble_eq_true rfl, Nat.le_of_ble_eq_true rfl⟩ (fun r u H locs hp C => ?_)
  obtain ⟨rfl, hp⟩ := hp
  rcases hp with ⟨⟨k1, hk1, rfl⟩, rfl⟩ | ⟨hn1, rfl⟩
  · refine lv_if_ne (tgt := 10) hx hb dX2_fill_5 (by decide) (fun h5 => ?_) (fun h5 => ?_)
    · have lp : ∀ (k j : Nat) (wd' : Nat → Int32), j ≤ 4 → 5 ≤ j + k → (∀ i, wd' i = if i / 4 = k1 ∧ i % 4 < j then x2 else wd i) → ∀ (H : Heap) (locs : List Loc), pz_C (md_W g ad) g A s (wd', re) H locs → ∀ ls : Array Slot, lv_has ls 4 [(3, .int (nI j)), (0, .ref (ad 0)), (1, .int (nI k1)), (2, .int x2)] → W p l e ({ frames := 4, cells := 0, slots := 0, locals := 120 }) s m args below meth c H locs 0 0 Q (F0 m 12 ls []) := by
        intro k
        induction k with
        | zero => intro j wd' _ h; omega
        | succ k ih =>
          intro j wd' hj hk ha H locs C ls hl
          refine lv_iload_n hx hb dX2_fill_12 rfl (lv_at hl 0 rfl) ?_
          refine lv_iconst (v := nI 4) hx hb dX2_fill_13 (by decide +kernel) ?_
          refine pz_cge (tgt := 34) M (by omega) (by omega) dX2_fill_14 (by decide) (fun h14 => ?_) (fun h14 => ?_)
          · refine lv_aload_n hx hb dX2_fill_34 rfl (lv_at hl 1 rfl) ?_
            refine md_g_re M C dX2_fill_35 ?_
            refine lv_iload_n hx hb dX2_fill_38 rfl (lv_at hl 2 rfl) ?_
            refine lv_iconst (v := pz_b false) hx hb dX2_fill_39 (by decide +kernel) ?_
            refine md_s_re M C (by omega) dX2_fill_40 (fun H locs C => ?_)
            refine lv_iconst (v := 0) hx hb dX2_fill_41 (by decide +kernel) ?_
            exact ret _ _ _ _ _ _ C dX2_fill_42 rfl ⟨(mf_2 (μ := (wd, re)) (x2 := x2) hk1).1.symm, by rw [(mf_2 hk1).2, fl_4 ha h14]⟩
          · refine lv_aload_n hx hb dX2_fill_17 rfl (lv_at hl 1 rfl) ?_
            refine md_g_wd M C dX2_fill_18 ?_
            refine lv_iload_n hx hb dX2_fill_21 rfl (lv_at hl 2 rfl) ?_
            refine lv_iconst (v := nI 4) hx hb dX2_fill_22 (by decide +kernel) ?_
            refine pz_imulN M dX2_fill_23 ?_
            refine lv_iload_n hx hb dX2_fill_24 rfl (lv_at hl 0 rfl) ?_
            refine pz_iaddN M dX2_fill_25 ?_
            refine lv_iload_n hx hb dX2_fill_26 rfl (lv_at hl 3 rfl) ?_
            refine md_s_wd M C (by omega) dX2_fill_27 (fun H locs C => ?_)
            refine pz_iinc1 (k := 0) (lv' := [(3, _), (0, _), (1, _), (2, _)]) M dX2_fill_28 hl rfl (by decide) rfl (fun ls hl => ?_)
            refine lv_goto (tgt := 12) hx hb dX2_fill_31 (by decide) ?_
            exact ih (j + 1) _ (by omega) (by omega) (fl_s ha h14) _ _ C _ (lv_sub hl [0, 1, 2, 3] rfl)
      refine lv_iconst (v := nI 0) hx hb dX2_fill_10 (by decide +kernel) ?_
      refine lv_istore_n (lv' := [(3, _), (0, _), (1, _), (2, _)]) hx hb dX2_fill_11 rfl hl (by decide) rfl (fun ls hl => ?_)
      exact lp 5 0 _ (by omega) (by omega) fl_0 _ _ C _ (lv_sub hl [0, 1, 2, 3] rfl)
    · exact absurd h5 (by decide +kernel)
  · refine lv_if_ne (tgt := 10) hx hb dX2_fill_5 (by decide) (fun h5 => ?_) (fun h5 => ?_)
    · exact absurd rfl h5
    · refine lv_iconst (v := (-1)) hx hb dX2_fill_8 (by decide +kernel) ?_
      exact ret _ _ _ _ _ _ C dX2_fill_9 rfl ⟨(mf_1 (μ := (wd, re)) (x2 := x2) hn1).1.symm, (mf_1 hn1).2.symm⟩
set_option maxHeartbeats 4000000 in
set_option maxRecDepth 100000 in
/-- copy -/
theorem mtX2_copy {l : Launch} {g : pz_G} {ad : Nat → Nat} {μ : md_S} {x1 x2 : Int32}  : pz_Mi l yX2_copy cX2_copy 4 .int ({ frames := 4, cells := 0, slots := 0, locals := 120 }) (md_W g ad) g μ [.ref (ad 0), .int x1, .int x2] (fun r u => r = mc_r x1 x2 ∧ u = mc_s μ x1 x2) := by
  obtain ⟨wd, re⟩ := μ
  refine pz_enterI (by decide) (Nat.le_of_ble_eq_true rfl) ?_
  intro p e s m args below meth c A Q M hA ret C ls hl
  have hx := M.1
  have hb := M.2.1
  have hl : lv_has ls 4 [(0, .ref (ad 0)), (1, .int x1), (2, .int x2)] := hl
  refine lv_aload_n hx hb dX2_copy_0 rfl (lv_at hl 0 rfl) ?_
  refine lv_iload_n hx hb dX2_copy_1 rfl (lv_at hl 1 rfl) ?_
  refine pz_calli M hA C rfl rfl iX2_17 mtX2_isPage ⟨Nat.le_of_ble_eq_true rfl, Nat.le_of_ble_eq_true rfl⟩ ⟨rfl, rfl⟩ rfl hl.1 rfl (Nat.le_of_ble_eq_true rfl) dX2_copy_2 ⟨Nat.le_of_ble_eq_true rfl, Nat.le_of_ble_eq_true rfl⟩ (fun r u H locs hp C => ?_)
  obtain ⟨rfl, hp⟩ := hp
  rcases hp with ⟨⟨k1, hk1, rfl⟩, rfl⟩ | ⟨hn1, rfl⟩
  · refine lv_if_eq (tgt := 16) hx hb dX2_copy_5 (by decide) (fun h5 => ?_) (fun h5 => ?_)
    · exact absurd h5 (by decide +kernel)
    · refine lv_aload_n hx hb dX2_copy_8 rfl (lv_at hl 0 rfl) ?_
      refine lv_iload_n hx hb dX2_copy_9 rfl (lv_at hl 2 rfl) ?_
      refine pz_calli M hA C rfl rfl iX2_17 mtX2_isPage ⟨Nat.le_of_ble_eq_true rfl, Nat.le_of_ble_eq_true rfl⟩ ⟨rfl, rfl⟩ rfl hl.1 rfl (Nat.le_of_ble_eq_true rfl) dX2_copy_10 ⟨Nat.le_of_ble_eq_true rfl, Nat.le_of_ble_eq_true rfl⟩ (fun r u H locs hp C => ?_)
      obtain ⟨rfl, hp⟩ := hp
      rcases hp with ⟨⟨k2, hk2, rfl⟩, rfl⟩ | ⟨hn2, rfl⟩
      · refine lv_if_ne (tgt := 18) hx hb dX2_copy_13 (by decide) (fun h13 => ?_) (fun h13 => ?_)
        · have m3 := mc_3 (μ := (wd, re)) hk1 hk2
          have lp : ∀ (k j : Nat) (wd' : Nat → Int32), j ≤ 4 → 5 ≤ j + k → (∀ i, wd' i = if i / 4 = k2 ∧ i % 4 < j then wd (k1 * 4 + i % 4) else wd i) → ∀ (H : Heap) (locs : List Loc), pz_C (md_W g ad) g A s (wd', re) H locs → ∀ ls : Array Slot, lv_has ls 4 [(3, .int (nI j)), (0, .ref (ad 0)), (1, .int (nI k1)), (2, .int (nI k2))] → W p l e ({ frames := 4, cells := 0, slots := 0, locals := 120 }) s m args below meth c H locs 0 0 Q (F0 m 20 ls []) := by
            intro k
            induction k with
            | zero => intro j wd' _ h; omega
            | succ k ih =>
              intro j wd' hj hk ha H locs C ls hl
              refine lv_iload_n hx hb dX2_copy_20 rfl (lv_at hl 0 rfl) ?_
              refine lv_iconst (v := nI 4) hx hb dX2_copy_21 (by decide +kernel) ?_
              refine pz_cge (tgt := 51) M (by omega) (by omega) dX2_copy_22 (by decide) (fun h22 => ?_) (fun h22 => ?_)
              · refine lv_aload_n hx hb dX2_copy_51 rfl (lv_at hl 1 rfl) ?_
                refine md_g_re M C dX2_copy_52 ?_
                refine lv_iload_n hx hb dX2_copy_55 rfl (lv_at hl 3 rfl) ?_
                refine lv_aload_n hx hb dX2_copy_56 rfl (lv_at hl 1 rfl) ?_
                refine md_g_re M C dX2_copy_57 ?_
                refine lv_iload_n hx hb dX2_copy_60 rfl (lv_at hl 2 rfl) ?_
                refine md_l_re M C (by omega) dX2_copy_61 ?_
                refine md_s_re M C (by omega) dX2_copy_62 (fun H locs C => ?_)
                refine lv_iconst (v := 0) hx hb dX2_copy_63 (by decide +kernel) ?_
                exact ret _ _ _ _ _ _ C dX2_copy_64 rfl ⟨m3.1.symm, by rw [m3.2.1, cp_4 ha h22]⟩
              · refine lv_aload_n hx hb dX2_copy_25 rfl (lv_at hl 1 rfl) ?_
                refine md_g_wd M C dX2_copy_26 ?_
                refine lv_iload_n hx hb dX2_copy_29 rfl (lv_at hl 3 rfl) ?_
                refine lv_iconst (v := nI 4) hx hb dX2_copy_30 (by decide +kernel) ?_
                refine pz_imulN M dX2_copy_31 ?_
                refine lv_iload_n hx hb dX2_copy_32 rfl (lv_at hl 0 rfl) ?_
                refine pz_iaddN M dX2_copy_33 ?_
                refine lv_aload_n hx hb dX2_copy_34 rfl (lv_at hl 1 rfl) ?_
                refine md_g_wd M C dX2_copy_35 ?_
                refine lv_iload_n hx hb dX2_copy_38 rfl (lv_at hl 2 rfl) ?_
                refine lv_iconst (v := nI 4) hx hb dX2_copy_39 (by decide +kernel) ?_
                refine pz_imulN M dX2_copy_40 ?_
                refine lv_iload_n hx hb dX2_copy_41 rfl (lv_at hl 0 rfl) ?_
                refine pz_iaddN M dX2_copy_42 ?_
                refine md_l_wd M C (by omega) dX2_copy_43 ?_
                refine md_s_wd M C (by omega) dX2_copy_44 (fun H locs C => ?_)
                refine pz_iinc1 (k := 0) (lv' := [(3, _), (0, _), (1, _), (2, _)]) M dX2_copy_45 hl rfl (by decide) rfl (fun ls hl => ?_)
                refine lv_goto (tgt := 20) hx hb dX2_copy_48 (by decide) ?_
                exact ih (j + 1) _ (by omega) (by omega) (cp_s ha h22) _ _ C _ (lv_sub hl [0, 1, 2, 3] rfl)
          refine lv_iconst (v := nI 0) hx hb dX2_copy_18 (by decide +kernel) ?_
          refine lv_istore_n (lv' := [(3, _), (0, _), (1, _), (2, _)]) hx hb dX2_copy_19 rfl hl (by decide) rfl (fun ls hl => ?_)
          exact lp 5 0 _ (by omega) (by omega) cp_0 _ _ C _ (lv_sub hl [0, 1, 2, 3] rfl)
        · exact absurd h13 (by decide +kernel)
      · refine lv_if_ne (tgt := 18) hx hb dX2_copy_13 (by decide) (fun h13 => ?_) (fun h13 => ?_)
        · exact absurd rfl h13
        · refine lv_iconst (v := (-1)) hx hb dX2_copy_16 (by decide +kernel) ?_
          exact ret _ _ _ _ _ _ C dX2_copy_17 rfl ⟨(mc_2 (μ := (wd, re)) hk1 hn2).1.symm, (mc_2 hk1 hn2).2.1.symm⟩
  · refine lv_if_eq (tgt := 16) hx hb dX2_copy_5 (by decide) (fun h5 => ?_) (fun h5 => ?_)
    · refine lv_iconst (v := (-1)) hx hb dX2_copy_16 (by decide +kernel) ?_
      exact ret _ _ _ _ _ _ C dX2_copy_17 rfl ⟨(mc_1 (μ := (wd, re)) hn1).1.symm, (mc_1 hn1).2.1.symm⟩
    · exact absurd rfl h5
set_option maxHeartbeats 4000000 in
set_option maxRecDepth 100000 in
/-- swap -/
theorem mtX2_swap {l : Launch} {g : pz_G} {ad : Nat → Nat} {μ : md_S} {x1 x2 : Int32}  : pz_Mi l yX2_swap cX2_swap 5 .int ({ frames := 4, cells := 0, slots := 0, locals := 120 }) (md_W g ad) g μ [.ref (ad 0), .int x1, .int x2] (fun r u => r = mc_r x1 x2 ∧ u = mx_s μ x1 x2) := by
  obtain ⟨wd, re⟩ := μ
  refine pz_enterI (by decide) (Nat.le_of_ble_eq_true rfl) ?_
  intro p e s m args below meth c A Q M hA ret C ls hl
  have hx := M.1
  have hb := M.2.1
  have hl : lv_has ls 5 [(0, .ref (ad 0)), (1, .int x1), (2, .int x2)] := hl
  refine lv_aload_n hx hb dX2_swap_0 rfl (lv_at hl 0 rfl) ?_
  refine lv_iload_n hx hb dX2_swap_1 rfl (lv_at hl 1 rfl) ?_
  refine pz_calli M hA C rfl rfl iX2_17 mtX2_isPage ⟨Nat.le_of_ble_eq_true rfl, Nat.le_of_ble_eq_true rfl⟩ ⟨rfl, rfl⟩ rfl hl.1 rfl (Nat.le_of_ble_eq_true rfl) dX2_swap_2 ⟨Nat.le_of_ble_eq_true rfl, Nat.le_of_ble_eq_true rfl⟩ (fun r u H locs hp C => ?_)
  obtain ⟨rfl, hp⟩ := hp
  rcases hp with ⟨⟨k1, hk1, rfl⟩, rfl⟩ | ⟨hn1, rfl⟩
  · refine lv_if_eq (tgt := 16) hx hb dX2_swap_5 (by decide) (fun h5 => ?_) (fun h5 => ?_)
    · exact absurd h5 (by decide +kernel)
    · refine lv_aload_n hx hb dX2_swap_8 rfl (lv_at hl 0 rfl) ?_
      refine lv_iload_n hx hb dX2_swap_9 rfl (lv_at hl 2 rfl) ?_
      refine pz_calli M hA C rfl rfl iX2_17 mtX2_isPage ⟨Nat.le_of_ble_eq_true rfl, Nat.le_of_ble_eq_true rfl⟩ ⟨rfl, rfl⟩ rfl hl.1 rfl (Nat.le_of_ble_eq_true rfl) dX2_swap_10 ⟨Nat.le_of_ble_eq_true rfl, Nat.le_of_ble_eq_true rfl⟩ (fun r u H locs hp C => ?_)
      obtain ⟨rfl, hp⟩ := hp
      rcases hp with ⟨⟨k2, hk2, rfl⟩, rfl⟩ | ⟨hn2, rfl⟩
      · refine lv_if_ne (tgt := 18) hx hb dX2_swap_13 (by decide) (fun h13 => ?_) (fun h13 => ?_)
        · have m3 := mc_3 (μ := (wd, re)) hk1 hk2
          have lp : ∀ (k j : Nat) (wd' : Nat → Int32), j ≤ 4 → 5 ≤ j + k → (∀ i, wd' i = if i % 4 < j then md_sw wd k1 k2 i else wd i) → ∀ (H : Heap) (locs : List Loc), pz_C (md_W g ad) g A s (wd', re) H locs → ∀ ls : Array Slot, lv_has ls 5 [(3, .int (nI j)), (0, .ref (ad 0)), (1, .int (nI k1)), (2, .int (nI k2))] → W p l e ({ frames := 4, cells := 0, slots := 0, locals := 120 }) s m args below meth c H locs 0 0 Q (F0 m 20 ls []) := by
            intro k
            induction k with
            | zero => intro j wd' _ h; omega
            | succ k ih =>
              intro j wd' hj hk ha H locs C ls hl
              refine lv_iload_n hx hb dX2_swap_20 rfl (lv_at hl 0 rfl) ?_
              refine lv_iconst (v := nI 4) hx hb dX2_swap_21 (by decide +kernel) ?_
              refine pz_cge (tgt := 75) M (by omega) (by omega) dX2_swap_22 (by decide) (fun h22 => ?_) (fun h22 => ?_)
              · refine lv_aload_n hx hb dX2_swap_75 rfl (lv_at hl 1 rfl) ?_
                refine md_g_re M C dX2_swap_76 ?_
                refine lv_iload_n hx hb dX2_swap_79 rfl (lv_at hl 2 rfl) ?_
                refine md_l_re M C (by omega) dX2_swap_80 ?_
                refine lv_istore_n (lv' := [(3, _), (0, _), (1, _), (2, _)]) hx hb dX2_swap_81 rfl hl (by decide) rfl (fun ls hl => ?_)
                refine lv_aload_n hx hb dX2_swap_82 rfl (lv_at hl 1 rfl) ?_
                refine md_g_re M C dX2_swap_83 ?_
                refine lv_iload_n hx hb dX2_swap_86 rfl (lv_at hl 2 rfl) ?_
                refine lv_aload_n hx hb dX2_swap_87 rfl (lv_at hl 1 rfl) ?_
                refine md_g_re M C dX2_swap_88 ?_
                refine lv_iload_n hx hb dX2_swap_91 rfl (lv_at hl 3 rfl) ?_
                refine md_l_re M C (by omega) dX2_swap_92 ?_
                refine md_s_re M C (by omega) dX2_swap_93 (fun H locs C => ?_)
                refine lv_aload_n hx hb dX2_swap_94 rfl (lv_at hl 1 rfl) ?_
                refine md_g_re M C dX2_swap_95 ?_
                refine lv_iload_n hx hb dX2_swap_98 rfl (lv_at hl 3 rfl) ?_
                refine lv_iload_n hx hb dX2_swap_99 rfl (lv_at hl 0 rfl) ?_
                refine md_s_re M C (by omega) dX2_swap_100 (fun H locs C => ?_)
                refine lv_iconst (v := 0) hx hb dX2_swap_101 (by decide +kernel) ?_
                exact ret _ _ _ _ _ _ C dX2_swap_102 rfl ⟨m3.1.symm, by rw [m3.2.2.1, sw_4 ha h22]⟩
              · refine lv_aload_n hx hb dX2_swap_25 rfl (lv_at hl 1 rfl) ?_
                refine md_g_wd M C dX2_swap_26 ?_
                refine lv_iload_n hx hb dX2_swap_29 rfl (lv_at hl 2 rfl) ?_
                refine lv_iconst (v := nI 4) hx hb dX2_swap_30 (by decide +kernel) ?_
                refine pz_imulN M dX2_swap_31 ?_
                refine lv_iload_n hx hb dX2_swap_32 rfl (lv_at hl 0 rfl) ?_
                refine pz_iaddN M dX2_swap_33 ?_
                refine md_l_wd M C (by omega) dX2_swap_34 ?_
                refine lv_istore (lv' := [(4, _), (3, _), (0, _), (1, _), (2, _)]) hx hb dX2_swap_35 hl (by decide) rfl (fun ls hl => ?_)
                refine lv_aload_n hx hb dX2_swap_37 rfl (lv_at hl 2 rfl) ?_
                refine md_g_wd M C dX2_swap_38 ?_
                refine lv_iload_n hx hb dX2_swap_41 rfl (lv_at hl 3 rfl) ?_
                refine lv_iconst (v := nI 4) hx hb dX2_swap_42 (by decide +kernel) ?_
                refine pz_imulN M dX2_swap_43 ?_
                refine lv_iload_n hx hb dX2_swap_44 rfl (lv_at hl 1 rfl) ?_
                refine pz_iaddN M dX2_swap_45 ?_
                refine lv_aload_n hx hb dX2_swap_46 rfl (lv_at hl 2 rfl) ?_
                refine md_g_wd M C dX2_swap_47 ?_
                refine lv_iload_n hx hb dX2_swap_50 rfl (lv_at hl 4 rfl) ?_
                refine lv_iconst (v := nI 4) hx hb dX2_swap_51 (by decide +kernel) ?_
                refine pz_imulN M dX2_swap_52 ?_
                refine lv_iload_n hx hb dX2_swap_53 rfl (lv_at hl 1 rfl) ?_
                refine pz_iaddN M dX2_swap_54 ?_
                refine md_l_wd M C (by omega) dX2_swap_55 ?_
                refine md_s_wd M C (by omega) dX2_swap_56 (fun H locs C => ?_)
                refine lv_aload_n hx hb dX2_swap_57 rfl (lv_at hl 2 rfl) ?_
                refine md_g_wd M C dX2_swap_58 ?_
                refine lv_iload_n hx hb dX2_swap_61 rfl (lv_at hl 4 rfl) ?_
                refine lv_iconst (v := nI 4) hx hb dX2_swap_62 (by decide +kernel) ?_
                refine pz_imulN M dX2_swap_63 ?_
                refine lv_iload_n hx hb dX2_swap_64 rfl (lv_at hl 1 rfl) ?_
                refine pz_iaddN M dX2_swap_65 ?_
                refine lv_iload hx hb dX2_swap_66 (lv_at hl 0 rfl) ?_
                refine md_s_wd M C (by omega) dX2_swap_68 (fun H locs C => ?_)
                refine pz_iinc1 (k := 1) (lv' := [(3, _), (4, _), (0, _), (1, _), (2, _)]) M dX2_swap_69 hl rfl (by decide) rfl (fun ls hl => ?_)
                refine lv_goto (tgt := 20) hx hb dX2_swap_72 (by decide) ?_
                exact ih (j + 1) _ (by omega) (by omega) (sw_s ha h22) _ _ C _ (lv_sub hl [0, 2, 3, 4] rfl)
          refine lv_iconst (v := nI 0) hx hb dX2_swap_18 (by decide +kernel) ?_
          refine lv_istore_n (lv' := [(3, _), (0, _), (1, _), (2, _)]) hx hb dX2_swap_19 rfl hl (by decide) rfl (fun ls hl => ?_)
          exact lp 5 0 _ (by omega) (by omega) sw_0 _ _ C _ (lv_sub hl [0, 1, 2, 3] rfl)
        · exact absurd h13 (by decide +kernel)
      · refine lv_if_ne (tgt := 18) hx hb dX2_swap_13 (by decide) (fun h13 => ?_) (fun h13 => ?_)
        · exact absurd rfl h13
        · refine lv_iconst (v := (-1)) hx hb dX2_swap_16 (by decide +kernel) ?_
          exact ret _ _ _ _ _ _ C dX2_swap_17 rfl ⟨(mc_2 (μ := (wd, re)) hk1 hn2).1.symm, (mc_2 hk1 hn2).2.2.1.symm⟩
  · refine lv_if_eq (tgt := 16) hx hb dX2_swap_5 (by decide) (fun h5 => ?_) (fun h5 => ?_)
    · refine lv_iconst (v := (-1)) hx hb dX2_swap_16 (by decide +kernel) ?_
      exact ret _ _ _ _ _ _ C dX2_swap_17 rfl ⟨(mc_1 (μ := (wd, re)) hn1).1.symm, (mc_1 hn1).2.2.1.symm⟩
    · exact absurd rfl h5
set_option maxHeartbeats 4000000 in
set_option maxRecDepth 100000 in
/-- release -/
theorem mtX2_release {l : Launch} {g : pz_G} {ad : Nat → Nat} {μ : md_S} {x1 : Int32}  : pz_Mi l yX2_release cX2_release 2 .int ({ frames := 5, cells := 0, slots := 0, locals := 150 }) (md_W g ad) g μ [.ref (ad 0), .int x1] (fun r u => r = ml_r μ x1 ∧ u = ml_s μ x1) := by
  obtain ⟨wd, re⟩ := μ
  refine pz_enterI (by decide) (Nat.le_of_ble_eq_true rfl) ?_
  intro p e s m args below meth c A Q M hA ret C ls hl
  have hx := M.1
  have hb := M.2.1
  have hl : lv_has ls 2 [(0, .ref (ad 0)), (1, .int x1)] := hl
  refine lv_aload_n hx hb dX2_release_0 rfl (lv_at hl 0 rfl) ?_
  refine lv_iload_n hx hb dX2_release_1 rfl (lv_at hl 1 rfl) ?_
  refine pz_calli M hA C rfl rfl iX2_17 mtX2_isPage ⟨Nat.le_of_ble_eq_true rfl, Nat.le_of_ble_eq_true rfl⟩ ⟨rfl, rfl⟩ rfl hl.1 rfl (Nat.le_of_ble_eq_true rfl) dX2_release_2 ⟨Nat.le_of_ble_eq_true rfl, Nat.le_of_ble_eq_true rfl⟩ (fun r u H locs hp C => ?_)
  obtain ⟨rfl, hp⟩ := hp
  rcases hp with ⟨⟨k1, hk1, rfl⟩, rfl⟩ | ⟨hn1, rfl⟩
  · refine lv_if_ne (tgt := 10) hx hb dX2_release_5 (by decide) (fun h5 => ?_) (fun h5 => ?_)
    · have m2 := ml_2 (μ := (wd, re)) hk1
      refine lv_aload_n hx hb dX2_release_10 rfl (lv_at hl 0 rfl) ?_
      refine md_g_re M C dX2_release_11 ?_
      refine lv_iload_n hx hb dX2_release_14 rfl (lv_at hl 1 rfl) ?_
      refine md_l_re M C (by omega) dX2_release_15 ?_
      refine pz_beq (tgt := 22) M dX2_release_16 (by decide) (fun h16 => ?_) (fun h16 => ?_)
      · have nr : ¬ re k1 = true := by rw [h16]; decide
        refine lv_aload_n hx hb dX2_release_22 rfl (lv_at hl 0 rfl) ?_
        refine lv_iload_n hx hb dX2_release_23 rfl (lv_at hl 1 rfl) ?_
        refine lv_iconst (v := 0) hx hb dX2_release_24 (by decide +kernel) ?_
        refine pz_calli M hA C rfl rfl iX2_21 mtX2_fill ⟨Nat.le_of_ble_eq_true rfl, Nat.le_of_ble_eq_true rfl⟩ ⟨rfl, rfl⟩ rfl hl.1 rfl (Nat.le_of_ble_eq_true rfl) dX2_release_25 ⟨Nat.le_of_ble_eq_true rfl, Nat.le_of_ble_eq_true rfl⟩ (fun r u H locs hp C => ?_)
        obtain ⟨-, rfl⟩ := hp
        rw [(mf_2 hk1).2] at C
        refine lv_pop hx hb dX2_release_28 rfl ?_
        refine lv_aload_n hx hb dX2_release_29 rfl (lv_at hl 0 rfl) ?_
        refine md_g_re M C dX2_release_30 ?_
        refine lv_iload_n hx hb dX2_release_33 rfl (lv_at hl 1 rfl) ?_
        refine lv_iconst (v := pz_b true) hx hb dX2_release_34 (by decide +kernel) ?_
        refine md_s_re M C (by omega) dX2_release_35 (fun H locs C => ?_)
        refine lv_iconst (v := 0) hx hb dX2_release_36 (by decide +kernel) ?_
        exact ret _ _ _ _ _ _ C dX2_release_37 rfl ⟨by rw [m2.1]; exact (if_neg nr).symm, by rw [m2.2.1]; refine Eq.trans ?_ (if_neg nr).symm; rw [bx_uu]⟩
      · refine lv_bipush (v := (-3)) hx hb dX2_release_19 (by decide +kernel) ?_
        exact ret _ _ _ _ _ _ C dX2_release_21 rfl ⟨by rw [m2.1]; exact (if_pos h16).symm, by rw [m2.2.1]; exact (if_pos h16).symm⟩
    · exact absurd h5 (by decide +kernel)
  · refine lv_if_ne (tgt := 10) hx hb dX2_release_5 (by decide) (fun h5 => ?_) (fun h5 => ?_)
    · exact absurd rfl h5
    · refine lv_iconst (v := (-1)) hx hb dX2_release_8 (by decide +kernel) ?_
      exact ret _ _ _ _ _ _ C dX2_release_9 rfl ⟨(ml_1 hn1).1.symm, (ml_1 hn1).2.1.symm⟩
set_option maxHeartbeats 4000000 in
set_option maxRecDepth 100000 in
/-- scan -/
theorem mtX2_scan {l : Launch} {g : pz_G} {ad : Nat → Nat} {μ : md_S} {x1 : Int32}  : pz_Mv l yX2_scan cX2_scan 2 ({ frames := 0, cells := 0, slots := 0, locals := 0 }) (md_W g ad) g μ [.ref (ad 0), .int x1] (fun u => u = μ) := by
  obtain ⟨wd, re⟩ := μ
  refine pz_enterV (by decide) (Nat.le_of_ble_eq_true rfl) ?_
  intro p e s m args below meth c A Q M hA ret C ls hl
  have hx := M.1
  have hb := M.2.1
  have hl : lv_has ls 2 [(0, .ref (ad 0)), (1, .int x1)] := hl
  exact ret _ _ _ _ _ C dX2_scan_0 rfl
set_option maxHeartbeats 4000000 in
set_option maxRecDepth 100000 in
/-- held -/
theorem mtX2_held {l : Launch} {g : pz_G} {ad : Nat → Nat} {μ : md_S} {x1 : Int32}  : pz_Mi l yX2_held cX2_held 2 .boolean ({ frames := 1, cells := 0, slots := 0, locals := 21 }) (md_W g ad) g μ [.ref (ad 0), .int x1] (fun r u => r = pz_b (mh_r μ x1) ∧ u = μ) := by
  obtain ⟨wd, re⟩ := μ
  refine pz_enterI (by decide) (Nat.le_of_ble_eq_true rfl) ?_
  intro p e s m args below meth c A Q M hA ret C ls hl
  have hx := M.1
  have hb := M.2.1
  have hl : lv_has ls 2 [(0, .ref (ad 0)), (1, .int x1)] := hl
  refine lv_aload_n hx hb dX2_held_0 rfl (lv_at hl 0 rfl) ?_
  refine lv_iload_n hx hb dX2_held_1 rfl (lv_at hl 1 rfl) ?_
  refine pz_calli M hA C rfl rfl iX2_17 mtX2_isPage ⟨Nat.le_of_ble_eq_true rfl, Nat.le_of_ble_eq_true rfl⟩ ⟨rfl, rfl⟩ rfl hl.1 rfl (Nat.le_of_ble_eq_true rfl) dX2_held_2 ⟨Nat.le_of_ble_eq_true rfl, Nat.le_of_ble_eq_true rfl⟩ (fun r u H locs hp C => ?_)
  obtain ⟨rfl, hp⟩ := hp
  rcases hp with ⟨⟨k1, hk1, rfl⟩, rfl⟩ | ⟨hn1, rfl⟩
  · refine lv_if_eq (tgt := 21) hx hb dX2_held_5 (by decide) (fun h5 => ?_) (fun h5 => ?_)
    · exact absurd h5 (by decide +kernel)
    · have m2 := (ml_2 (μ := (wd, re)) hk1).2.2
      refine lv_aload_n hx hb dX2_held_8 rfl (lv_at hl 0 rfl) ?_
      refine md_g_re M C dX2_held_9 ?_
      refine lv_iload_n hx hb dX2_held_12 rfl (lv_at hl 1 rfl) ?_
      refine md_l_re M C (by omega) dX2_held_13 ?_
      refine pz_bne (tgt := 21) M dX2_held_14 (by decide) (fun h14 => ?_) (fun h14 => ?_)
      · refine lv_iconst (v := 0) hx hb dX2_held_21 (by decide +kernel) ?_
        exact ret _ _ _ _ _ _ C dX2_held_22 rfl ⟨by rw [m2, show (wd, re).2 k1 = true from h14]; rfl, rfl⟩
      · refine lv_iconst (v := 1) hx hb dX2_held_17 (by decide +kernel) ?_
        refine lv_goto (tgt := 22) hx hb dX2_held_18 (by decide) ?_
        exact ret _ _ _ _ _ _ C dX2_held_22 rfl ⟨by rw [m2, show (wd, re).2 k1 = false from h14]; rfl, rfl⟩
  · refine lv_if_eq (tgt := 21) hx hb dX2_held_5 (by decide) (fun h5 => ?_) (fun h5 => ?_)
    · refine lv_iconst (v := 0) hx hb dX2_held_21 (by decide +kernel) ?_
      exact ret _ _ _ _ _ _ C dX2_held_22 rfl ⟨by rw [(ml_1 hn1).2.2]; rfl, rfl⟩
    · exact absurd rfl h5
set_option maxHeartbeats 4000000 in
set_option maxRecDepth 100000 in
/-- same -/
theorem mtX2_same {l : Launch} {g : pz_G} {ad : Nat → Nat} {μ : md_S} {x1 x2 : Int32}  : pz_Mi l yX2_same cX2_same 4 .boolean ({ frames := 1, cells := 0, slots := 0, locals := 21 }) (md_W g ad) g μ [.ref (ad 0), .int x1, .int x2] (fun r u => r = pz_b (ms_r μ x1 x2) ∧ u = μ) := by
  obtain ⟨wd, re⟩ := μ
  refine pz_enterI (by decide) (Nat.le_of_ble_eq_true rfl) ?_
  intro p e s m args below meth c A Q M hA ret C ls hl
  have hx := M.1
  have hb := M.2.1
  have hl : lv_has ls 4 [(0, .ref (ad 0)), (1, .int x1), (2, .int x2)] := hl
  refine lv_aload_n hx hb dX2_same_0 rfl (lv_at hl 0 rfl) ?_
  refine lv_iload_n hx hb dX2_same_1 rfl (lv_at hl 1 rfl) ?_
  refine pz_calli M hA C rfl rfl iX2_17 mtX2_isPage ⟨Nat.le_of_ble_eq_true rfl, Nat.le_of_ble_eq_true rfl⟩ ⟨rfl, rfl⟩ rfl hl.1 rfl (Nat.le_of_ble_eq_true rfl) dX2_same_2 ⟨Nat.le_of_ble_eq_true rfl, Nat.le_of_ble_eq_true rfl⟩ (fun r u H locs hp C => ?_)
  obtain ⟨rfl, hp⟩ := hp
  rcases hp with ⟨⟨k1, hk1, rfl⟩, rfl⟩ | ⟨hn1, rfl⟩
  · refine lv_if_eq (tgt := 16) hx hb dX2_same_5 (by decide) (fun h5 => ?_) (fun h5 => ?_)
    · exact absurd h5 (by decide +kernel)
    · refine lv_aload_n hx hb dX2_same_8 rfl (lv_at hl 0 rfl) ?_
      refine lv_iload_n hx hb dX2_same_9 rfl (lv_at hl 2 rfl) ?_
      refine pz_calli M hA C rfl rfl iX2_17 mtX2_isPage ⟨Nat.le_of_ble_eq_true rfl, Nat.le_of_ble_eq_true rfl⟩ ⟨rfl, rfl⟩ rfl hl.1 rfl (Nat.le_of_ble_eq_true rfl) dX2_same_10 ⟨Nat.le_of_ble_eq_true rfl, Nat.le_of_ble_eq_true rfl⟩ (fun r u H locs hp C => ?_)
      obtain ⟨rfl, hp⟩ := hp
      rcases hp with ⟨⟨k2, hk2, rfl⟩, rfl⟩ | ⟨hn2, rfl⟩
      · refine lv_if_ne (tgt := 18) hx hb dX2_same_13 (by decide) (fun h13 => ?_) (fun h13 => ?_)
        · have m3 := (mc_3 (μ := (wd, re)) hk1 hk2).2.2.2
          have lp : ∀ (k j : Nat), j ≤ 4 → 5 ≤ j + k → (∀ v, v < j → wd (k1 * 4 + v) = wd (k2 * 4 + v)) → ∀ (H : Heap) (locs : List Loc), pz_C (md_W g ad) g A s (wd, re) H locs → ∀ ls : Array Slot, lv_has ls 4 [(3, .int (nI j)), (0, .ref (ad 0)), (1, .int (nI k1)), (2, .int (nI k2))] → W p l e ({ frames := 1, cells := 0, slots := 0, locals := 21 }) s m args below meth c H locs 0 0 Q (F0 m 20 ls []) := by
            intro k
            induction k with
            | zero => intro j _ h; omega
            | succ k ih =>
              intro j hj hk na H locs C ls hl
              refine lv_iload_n hx hb dX2_same_20 rfl (lv_at hl 0 rfl) ?_
              refine lv_iconst (v := nI 4) hx hb dX2_same_21 (by decide +kernel) ?_
              refine pz_cge (tgt := 56) M (by omega) (by omega) dX2_same_22 (by decide) (fun h22 => ?_) (fun h22 => ?_)
              · refine lv_iconst (v := 1) hx hb dX2_same_56 (by decide +kernel) ?_
                exact ret _ _ _ _ _ _ C dX2_same_57 rfl ⟨by rw [m3]; exact sm_1 (fun v hv => na v (by omega)), rfl⟩
              · refine lv_aload_n hx hb dX2_same_25 rfl (lv_at hl 1 rfl) ?_
                refine md_g_wd M C dX2_same_26 ?_
                refine lv_iload_n hx hb dX2_same_29 rfl (lv_at hl 2 rfl) ?_
                refine lv_iconst (v := nI 4) hx hb dX2_same_30 (by decide +kernel) ?_
                refine pz_imulN M dX2_same_31 ?_
                refine lv_iload_n hx hb dX2_same_32 rfl (lv_at hl 0 rfl) ?_
                refine pz_iaddN M dX2_same_33 ?_
                refine md_l_wd M C (by omega) dX2_same_34 ?_
                refine lv_aload_n hx hb dX2_same_35 rfl (lv_at hl 1 rfl) ?_
                refine md_g_wd M C dX2_same_36 ?_
                refine lv_iload_n hx hb dX2_same_39 rfl (lv_at hl 3 rfl) ?_
                refine lv_iconst (v := nI 4) hx hb dX2_same_40 (by decide +kernel) ?_
                refine pz_imulN M dX2_same_41 ?_
                refine lv_iload_n hx hb dX2_same_42 rfl (lv_at hl 0 rfl) ?_
                refine pz_iaddN M dX2_same_43 ?_
                refine md_l_wd M C (by omega) dX2_same_44 ?_
                refine lv_icmp_eq (tgt := 50) hx hb dX2_same_45 (by decide) (fun h45 => ?_) (fun h45 => ?_)
                · refine pz_iinc1 (k := 0) (lv' := [(3, _), (0, _), (1, _), (2, _)]) M dX2_same_50 hl rfl (by decide) rfl (fun ls hl => ?_)
                  refine lv_goto (tgt := 20) hx hb dX2_same_53 (by decide) ?_
                  exact ih (j + 1) (by omega) (by omega) (fun x a => by
    rcases Nat.lt_or_ge x j with q | q
    · exact na x q
    · rw [show x = j by omega]; exact h45) _ _ C _ (lv_sub hl [0, 1, 2, 3] rfl)
                · refine lv_iconst (v := 0) hx hb dX2_same_48 (by decide +kernel) ?_
                  exact ret _ _ _ _ _ _ C dX2_same_49 rfl ⟨by rw [m3]; exact sm_2 h22 h45, rfl⟩
          refine lv_iconst (v := nI 0) hx hb dX2_same_18 (by decide +kernel) ?_
          refine lv_istore_n (lv' := [(3, _), (0, _), (1, _), (2, _)]) hx hb dX2_same_19 rfl hl (by decide) rfl (fun ls hl => ?_)
          exact lp 5 0 (by omega) (by omega) (fun v h => absurd h (by omega)) _ _ C _ (lv_sub hl [0, 1, 2, 3] rfl)
        · exact absurd h13 (by decide +kernel)
      · refine lv_if_ne (tgt := 18) hx hb dX2_same_13 (by decide) (fun h13 => ?_) (fun h13 => ?_)
        · exact absurd rfl h13
        · refine lv_iconst (v := 0) hx hb dX2_same_16 (by decide +kernel) ?_
          exact ret _ _ _ _ _ _ C dX2_same_17 rfl ⟨by rw [(mc_2 hk1 hn2).2.2.2]; rfl, rfl⟩
  · refine lv_if_eq (tgt := 16) hx hb dX2_same_5 (by decide) (fun h5 => ?_) (fun h5 => ?_)
    · refine lv_iconst (v := 0) hx hb dX2_same_16 (by decide +kernel) ?_
      exact ret _ _ _ _ _ _ C dX2_same_17 rfl ⟨by rw [(mc_1 hn1).2.2.2]; rfl, rfl⟩
    · exact absurd rfl h5
set_option maxHeartbeats 4000000 in
set_option maxRecDepth 100000 in
/-- again(p) -/
theorem mtX2_again {l : Launch} {g : pz_G} {ad : Nat → Nat} {μ : md_S} {p0 : Nat} (hp0 : p0 < 24) : pz_Mi l yX2_again cX2_again 3 .boolean ({ frames := 2, cells := 0, slots := 0, locals := 48 }) (md_W g ad) g μ [.ref (ad 0), .int (nI p0)] (fun r u => u = μ ∧ r = pz_b (md_ag μ p0 p0)) := by
  obtain ⟨wd, re⟩ := μ
  refine pz_enterI (by decide) (Nat.le_of_ble_eq_true rfl) ?_
  intro p e s m args below meth c A Q M hA ret C ls hl
  have hx := M.1
  have hb := M.2.1
  have hl : lv_has ls 3 [(0, .ref (ad 0)), (1, .int (nI p0))] := hl
  have lp : ∀ (k i : Nat), i ≤ p0 → p0 + 1 ≤ i + k → md_ag (wd, re) p0 i = false → ∀ (H : Heap) (locs : List Loc), pz_C (md_W g ad) g A s (wd, re) H locs → ∀ ls : Array Slot, lv_has ls 3 [(2, .int (nI i)), (0, .ref (ad 0)), (1, .int (nI p0))] → W p l e ({ frames := 2, cells := 0, slots := 0, locals := 48 }) s m args below meth c H locs 0 0 Q (F0 m 2 ls []) := by
    intro k
    induction k with
    | zero => intro i _ h; omega
    | succ k ih =>
      intro i hi hk na H locs C ls hl
      refine lv_iload_n hx hb dX2_again_2 rfl (lv_at hl 0 rfl) ?_
      refine lv_iload_n hx hb dX2_again_3 rfl (lv_at hl 2 rfl) ?_
      refine pz_cge (tgt := 32) M (by omega) (by omega) dX2_again_4 (by decide) (fun h4 => ?_) (fun h4 => ?_)
      · refine lv_iconst (v := 0) hx hb dX2_again_32 (by decide +kernel) ?_
        exact ret _ _ _ _ _ _ C dX2_again_33 rfl ⟨rfl, by rw [show p0 = i by omega] at na ⊢; rw [na]; rfl⟩
      · refine lv_aload_n hx hb dX2_again_7 rfl (lv_at hl 1 rfl) ?_
        refine lv_iload_n hx hb dX2_again_8 rfl (lv_at hl 0 rfl) ?_
        refine pz_calli M hA C rfl rfl iX2_25 mtX2_held ⟨Nat.le_of_ble_eq_true rfl, Nat.le_of_ble_eq_true rfl⟩ ⟨rfl, rfl⟩ rfl hl.1 rfl (Nat.le_of_ble_eq_true rfl) dX2_again_9 ⟨Nat.le_of_ble_eq_true rfl, Nat.le_of_ble_eq_true rfl⟩ (fun r u H locs hp C => ?_)
        obtain ⟨rfl, rfl⟩ := hp
        rw [(ml_2 (by omega)).2.2]
        refine pz_beq (tgt := 26) M dX2_again_12 (by decide) (fun h12 => ?_) (fun h12 => ?_)
        · refine pz_iinc1 (k := 0) (lv' := [(2, _), (0, _), (1, _)]) M dX2_again_26 hl rfl (by decide) rfl (fun ls hl => ?_)
          refine lv_goto (tgt := 2) hx hb dX2_again_29 (by decide) ?_
          exact ih (i + 1) (by omega) (by omega) (ag_s0 na (Or.inl (by cases e : (wd, re).2 i with | true => rfl | false => rw [e] at h12; cases h12))) _ _ C _ (lv_sub hl [0, 1, 2] rfl)
        · have h12 : (wd, re).2 i = false := by cases e : (wd, re).2 i with | false => rfl | true => rw [e] at h12; cases h12
          refine lv_aload_n hx hb dX2_again_15 rfl (lv_at hl 1 rfl) ?_
          refine lv_iload_n hx hb dX2_again_16 rfl (lv_at hl 0 rfl) ?_
          refine lv_iload_n hx hb dX2_again_17 rfl (lv_at hl 2 rfl) ?_
          refine pz_calli M hA C rfl rfl iX2_28 mtX2_same ⟨Nat.le_of_ble_eq_true rfl, Nat.le_of_ble_eq_true rfl⟩ ⟨rfl, rfl⟩ rfl hl.1 rfl (Nat.le_of_ble_eq_true rfl) dX2_again_18 ⟨Nat.le_of_ble_eq_true rfl, Nat.le_of_ble_eq_true rfl⟩ (fun r u H locs hp C => ?_)
          obtain ⟨rfl, rfl⟩ := hp
          rw [(mc_3 (by omega) hp0).2.2.2]
          refine pz_beq (tgt := 26) M dX2_again_21 (by decide) (fun h21 => ?_) (fun h21 => ?_)
          · refine pz_iinc1 (k := 0) (lv' := [(2, _), (0, _), (1, _)]) M dX2_again_26 hl rfl (by decide) rfl (fun ls hl => ?_)
            refine lv_goto (tgt := 2) hx hb dX2_again_29 (by decide) ?_
            exact ih (i + 1) (by omega) (by omega) (ag_s0 na (Or.inr h21)) _ _ C _ (lv_sub hl [0, 1, 2] rfl)
          · refine lv_iconst (v := 1) hx hb dX2_again_24 (by decide +kernel) ?_
            exact ret _ _ _ _ _ _ C dX2_again_25 rfl ⟨rfl, by rw [ag_mono (ag_s1 h12 h21) p0 (by omega)]; rfl⟩
  refine lv_iconst (v := nI 0) hx hb dX2_again_0 (by decide +kernel) ?_
  refine lv_istore_n (lv' := [(2, _), (0, _), (1, _)]) hx hb dX2_again_1 rfl hl (by decide) rfl (fun ls hl => ?_)
  exact lp (p0 + 1) 0 (by omega) (by omega) rfl _ _ C _ (lv_sub hl [0, 1, 2] rfl)
set_option maxHeartbeats 4000000 in
set_option maxRecDepth 100000 in
/-- contents -/
theorem mtX2_contents {l : Launch} {g : pz_G} {ad : Nat → Nat} {μ : md_S}   : pz_Mi l yX2_contents cX2_contents 3 .int ({ frames := 4, cells := 0, slots := 0, locals := 120 }) (md_W g ad) g μ [.ref (ad 0)] (fun r u => r = mn_r μ ∧ u = μ) := by
  obtain ⟨wd, re⟩ := μ
  refine pz_enterI (by decide) (Nat.le_of_ble_eq_true rfl) ?_
  intro p e s m args below meth c A Q M hA ret C ls hl
  have hx := M.1
  have hb := M.2.1
  have hl : lv_has ls 3 [(0, .ref (ad 0))] := hl
  have lp : ∀ (k i n : Nat), i ≤ 24 → 25 ≤ i + k → n = md_ct (fun p => !((wd, re).2 p) && !(md_ag (wd, re) p p)) i → ∀ (H : Heap) (locs : List Loc), pz_C (md_W g ad) g A s (wd, re) H locs → ∀ ls : Array Slot, lv_has ls 3 [(2, .int (nI i)), (1, .int (nI n)), (0, .ref (ad 0))] → W p l e ({ frames := 4, cells := 0, slots := 0, locals := 120 }) s m args below meth c H locs 0 0 Q (F0 m 4 ls []) := by
    intro k
    induction k with
    | zero => intro i n _ h; omega
    | succ k ih =>
      intro i n hi hk en H locs C ls hl
      refine lv_iload_n hx hb dX2_contents_4 rfl (lv_at hl 0 rfl) ?_
      refine lv_bipush (v := nI 24) hx hb dX2_contents_5 (by decide +kernel) ?_
      refine pz_cge (tgt := 35) M (by omega) (by omega) dX2_contents_7 (by decide) (fun h7 => ?_) (fun h7 => ?_)
      · refine lv_iload_n hx hb dX2_contents_35 rfl (lv_at hl 1 rfl) ?_
        exact ret _ _ _ _ _ _ C dX2_contents_36 rfl ⟨by rw [en, show i = 24 by omega]; rfl, rfl⟩
      · refine lv_aload_n hx hb dX2_contents_10 rfl (lv_at hl 2 rfl) ?_
        refine lv_iload_n hx hb dX2_contents_11 rfl (lv_at hl 0 rfl) ?_
        refine pz_calli M hA C rfl rfl iX2_25 mtX2_held ⟨Nat.le_of_ble_eq_true rfl, Nat.le_of_ble_eq_true rfl⟩ ⟨rfl, rfl⟩ rfl hl.1 rfl (Nat.le_of_ble_eq_true rfl) dX2_contents_12 ⟨Nat.le_of_ble_eq_true rfl, Nat.le_of_ble_eq_true rfl⟩ (fun r u H locs hp C => ?_)
        obtain ⟨rfl, rfl⟩ := hp
        rw [(ml_2 (by omega)).2.2]
        refine pz_beq (tgt := 29) M dX2_contents_15 (by decide) (fun h15 => ?_) (fun h15 => ?_)
        · have h15 : re i = true := by cases e : re i with | true => rfl | false => rw [show (wd, re).2 i = false from e] at h15; cases h15
          refine pz_iinc1 (k := 0) (lv' := [(2, _), (1, _), (0, _)]) M dX2_contents_29 hl rfl (by decide) rfl (fun ls hl => ?_)
          refine lv_goto (tgt := 4) hx hb dX2_contents_32 (by decide) ?_
          exact ih (i + 1) n (by omega) (by omega) (ct_s0 en (by rw [show (wd, re).2 i = true from h15]; rfl)) _ _ C _ (lv_sub hl [0, 1, 2] rfl)
        · have h15 : re i = false := by cases e : re i with | false => rfl | true => rw [show (wd, re).2 i = true from e] at h15; cases h15
          have nr : (wd, re).2 i = false := h15
          refine lv_aload_n hx hb dX2_contents_18 rfl (lv_at hl 2 rfl) ?_
          refine lv_iload_n hx hb dX2_contents_19 rfl (lv_at hl 0 rfl) ?_
          refine pz_calli M hA C rfl rfl iX2_32 (mtX2_again h7) ⟨Nat.le_of_ble_eq_true rfl, Nat.le_of_ble_eq_true rfl⟩ ⟨rfl, rfl⟩ rfl hl.1 rfl (Nat.le_of_ble_eq_true rfl) dX2_contents_20 ⟨Nat.le_of_ble_eq_true rfl, Nat.le_of_ble_eq_true rfl⟩ (fun r u H locs hp C => ?_)
          obtain ⟨rfl, rfl⟩ := hp
          refine pz_bne (tgt := 29) M dX2_contents_23 (by decide) (fun h23 => ?_) (fun h23 => ?_)
          · refine pz_iinc1 (k := 0) (lv' := [(2, _), (1, _), (0, _)]) M dX2_contents_29 hl rfl (by decide) rfl (fun ls hl => ?_)
            refine lv_goto (tgt := 4) hx hb dX2_contents_32 (by decide) ?_
            exact ih (i + 1) n (by omega) (by omega) (ct_s0 en (by rw [nr, h23]; rfl)) _ _ C _ (lv_sub hl [0, 1, 2] rfl)
          · refine pz_iinc1 (k := 1) (lv' := [(1, _), (2, _), (0, _)]) M dX2_contents_26 hl rfl (by decide) rfl (fun ls hl => ?_)
            refine pz_iinc1 (k := 1) (lv' := [(2, _), (1, _), (0, _)]) M dX2_contents_29 hl rfl (by decide) rfl (fun ls hl => ?_)
            refine lv_goto (tgt := 4) hx hb dX2_contents_32 (by decide) ?_
            exact ih (i + 1) (n + 1) (by omega) (by omega) (ct_s1 en (by rw [nr, h23]; rfl)) _ _ C _ (lv_sub hl [0, 1, 2] rfl)
  refine lv_iconst (v := nI 0) hx hb dX2_contents_0 (by decide +kernel) ?_
  refine lv_istore_n (lv' := [(1, _), (0, _)]) hx hb dX2_contents_1 rfl hl (by decide) rfl (fun ls hl => ?_)
  refine lv_iconst (v := nI 0) hx hb dX2_contents_2 (by decide +kernel) ?_
  refine lv_istore_n (lv' := [(2, _), (1, _), (0, _)]) hx hb dX2_contents_3 rfl hl (by decide) rfl (fun ls hl => ?_)
  exact lp 25 0 0 (by omega) (by omega) rfl _ _ C _ (lv_sub hl [0, 1, 2] rfl)
set_option maxHeartbeats 4000000 in
set_option maxRecDepth 100000 in
/-- duplicates -/
theorem mtX2_duplicates {l : Launch} {g : pz_G} {ad : Nat → Nat} {μ : md_S}   : pz_Mi l yX2_duplicates cX2_duplicates 3 .int ({ frames := 4, cells := 0, slots := 0, locals := 120 }) (md_W g ad) g μ [.ref (ad 0)] (fun r u => r = me_r μ ∧ u = μ) := by
  obtain ⟨wd, re⟩ := μ
  refine pz_enterI (by decide) (Nat.le_of_ble_eq_true rfl) ?_
  intro p e s m args below meth c A Q M hA ret C ls hl
  have hx := M.1
  have hb := M.2.1
  have hl : lv_has ls 3 [(0, .ref (ad 0))] := hl
  have lp : ∀ (k i n : Nat), i ≤ 24 → 25 ≤ i + k → n = md_ct (fun p => !((wd, re).2 p) && md_ag (wd, re) p p) i → ∀ (H : Heap) (locs : List Loc), pz_C (md_W g ad) g A s (wd, re) H locs → ∀ ls : Array Slot, lv_has ls 3 [(2, .int (nI i)), (1, .int (nI n)), (0, .ref (ad 0))] → W p l e ({ frames := 4, cells := 0, slots := 0, locals := 120 }) s m args below meth c H locs 0 0 Q (F0 m 4 ls []) := by
    intro k
    induction k with
    | zero => intro i n _ h; omega
    | succ k ih =>
      intro i n hi hk en H locs C ls hl
      refine lv_iload_n hx hb dX2_duplicates_4 rfl (lv_at hl 0 rfl) ?_
      refine lv_bipush (v := nI 24) hx hb dX2_duplicates_5 (by decide +kernel) ?_
      refine pz_cge (tgt := 35) M (by omega) (by omega) dX2_duplicates_7 (by decide) (fun h7 => ?_) (fun h7 => ?_)
      · refine lv_iload_n hx hb dX2_duplicates_35 rfl (lv_at hl 1 rfl) ?_
        exact ret _ _ _ _ _ _ C dX2_duplicates_36 rfl ⟨by rw [en, show i = 24 by omega]; rfl, rfl⟩
      · refine lv_aload_n hx hb dX2_duplicates_10 rfl (lv_at hl 2 rfl) ?_
        refine lv_iload_n hx hb dX2_duplicates_11 rfl (lv_at hl 0 rfl) ?_
        refine pz_calli M hA C rfl rfl iX2_25 mtX2_held ⟨Nat.le_of_ble_eq_true rfl, Nat.le_of_ble_eq_true rfl⟩ ⟨rfl, rfl⟩ rfl hl.1 rfl (Nat.le_of_ble_eq_true rfl) dX2_duplicates_12 ⟨Nat.le_of_ble_eq_true rfl, Nat.le_of_ble_eq_true rfl⟩ (fun r u H locs hp C => ?_)
        obtain ⟨rfl, rfl⟩ := hp
        rw [(ml_2 (by omega)).2.2]
        refine pz_beq (tgt := 29) M dX2_duplicates_15 (by decide) (fun h15 => ?_) (fun h15 => ?_)
        · have h15 : re i = true := by cases e : re i with | true => rfl | false => rw [show (wd, re).2 i = false from e] at h15; cases h15
          refine pz_iinc1 (k := 0) (lv' := [(2, _), (1, _), (0, _)]) M dX2_duplicates_29 hl rfl (by decide) rfl (fun ls hl => ?_)
          refine lv_goto (tgt := 4) hx hb dX2_duplicates_32 (by decide) ?_
          exact ih (i + 1) n (by omega) (by omega) (ct_s0 en (by rw [show (wd, re).2 i = true from h15]; rfl)) _ _ C _ (lv_sub hl [0, 1, 2] rfl)
        · have h15 : re i = false := by cases e : re i with | false => rfl | true => rw [show (wd, re).2 i = true from e] at h15; cases h15
          have nr : (wd, re).2 i = false := h15
          refine lv_aload_n hx hb dX2_duplicates_18 rfl (lv_at hl 2 rfl) ?_
          refine lv_iload_n hx hb dX2_duplicates_19 rfl (lv_at hl 0 rfl) ?_
          refine pz_calli M hA C rfl rfl iX2_32 (mtX2_again h7) ⟨Nat.le_of_ble_eq_true rfl, Nat.le_of_ble_eq_true rfl⟩ ⟨rfl, rfl⟩ rfl hl.1 rfl (Nat.le_of_ble_eq_true rfl) dX2_duplicates_20 ⟨Nat.le_of_ble_eq_true rfl, Nat.le_of_ble_eq_true rfl⟩ (fun r u H locs hp C => ?_)
          obtain ⟨rfl, rfl⟩ := hp
          refine pz_beq (tgt := 29) M dX2_duplicates_23 (by decide) (fun h23 => ?_) (fun h23 => ?_)
          · refine pz_iinc1 (k := 0) (lv' := [(2, _), (1, _), (0, _)]) M dX2_duplicates_29 hl rfl (by decide) rfl (fun ls hl => ?_)
            refine lv_goto (tgt := 4) hx hb dX2_duplicates_32 (by decide) ?_
            exact ih (i + 1) n (by omega) (by omega) (ct_s0 en (by rw [nr, h23]; rfl)) _ _ C _ (lv_sub hl [0, 1, 2] rfl)
          · refine pz_iinc1 (k := 1) (lv' := [(1, _), (2, _), (0, _)]) M dX2_duplicates_26 hl rfl (by decide) rfl (fun ls hl => ?_)
            refine pz_iinc1 (k := 1) (lv' := [(2, _), (1, _), (0, _)]) M dX2_duplicates_29 hl rfl (by decide) rfl (fun ls hl => ?_)
            refine lv_goto (tgt := 4) hx hb dX2_duplicates_32 (by decide) ?_
            exact ih (i + 1) (n + 1) (by omega) (by omega) (ct_s1 en (by rw [nr, h23]; rfl)) _ _ C _ (lv_sub hl [0, 1, 2] rfl)
  refine lv_iconst (v := nI 0) hx hb dX2_duplicates_0 (by decide +kernel) ?_
  refine lv_istore_n (lv' := [(1, _), (0, _)]) hx hb dX2_duplicates_1 rfl hl (by decide) rfl (fun ls hl => ?_)
  refine lv_iconst (v := nI 0) hx hb dX2_duplicates_2 (by decide +kernel) ?_
  refine lv_istore_n (lv' := [(2, _), (1, _), (0, _)]) hx hb dX2_duplicates_3 rfl hl (by decide) rfl (fun ls hl => ?_)
  exact lp 25 0 0 (by omega) (by omega) rfl _ _ C _ (lv_sub hl [0, 1, 2] rfl)
set_option maxHeartbeats 4000000 in
set_option maxRecDepth 100000 in
/-- sum -/
theorem mtX2_sum {l : Launch} {g : pz_G} {ad : Nat → Nat} {μ : md_S} {x1 : Int32}  : pz_Mi l yX2_sum cX2_sum 4 .int ({ frames := 0, cells := 0, slots := 0, locals := 0 }) (md_W g ad) g μ [.ref (ad 0), .int x1] (fun r u => r = mu_r μ x1 ∧ u = μ) := by
  obtain ⟨wd, re⟩ := μ
  refine pz_enterI (by decide) (Nat.le_of_ble_eq_true rfl) ?_
  intro p e s m args below meth c A Q M hA ret C ls hl
  have hx := M.1
  have hb := M.2.1
  have hl : lv_has ls 4 [(0, .ref (ad 0)), (1, .int x1)] := hl
  obtain ⟨F, Fz, F1, F2, F96⟩ := su_F wd re x1
  have lp : ∀ (k i : Nat), i ≤ 96 → 97 ≤ i + k → ∀ (H : Heap) (locs : List Loc), pz_C (md_W g ad) g A s (wd, re) H locs → ∀ ls : Array Slot, lv_has ls 4 [(3, .int (nI i)), (2, .int (F i)), (0, .ref (ad 0)), (1, .int x1)] → W p l e ({ frames := 0, cells := 0, slots := 0, locals := 0 }) s m args below meth c H locs 0 0 Q (F0 m 4 ls []) := by
    intro k
    induction k with
    | zero => intro i _ h; omega
    | succ k ih =>
      intro i hi hk H locs C ls hl
      refine lv_iload_n hx hb dX2_sum_4 rfl (lv_at hl 0 rfl) ?_
      refine lv_bipush (v := nI 96) hx hb dX2_sum_5 (by decide +kernel) ?_
      refine pz_cge (tgt := 33) M (by omega) (by omega) dX2_sum_7 (by decide) (fun h7 => ?_) (fun h7 => ?_)
      · refine lv_iload_n hx hb dX2_sum_33 rfl (lv_at hl 1 rfl) ?_
        exact ret _ _ _ _ _ _ C dX2_sum_34 rfl ⟨by rw [show i = 96 by omega]; exact F96, rfl⟩
      · refine lv_iload_n hx hb dX2_sum_10 rfl (lv_at hl 0 rfl) ?_
        refine lv_bipush (v := nI 32) hx hb dX2_sum_11 (by decide +kernel) ?_
        refine lv_idiv hx hb dX2_sum_13 (by decide +kernel) ?_
        rw [pk_div (by omega) (by decide) (by decide)]
        refine lv_iload_n hx hb dX2_sum_14 rfl (lv_at hl 3 rfl) ?_
        refine lv_icmp_ne (tgt := 27) hx hb dX2_sum_15 (by decide) (fun h15 => ?_) (fun h15 => ?_)
        · have e := F2 i h7 h15
          rw [← e] at hl
          refine pz_iinc1 (k := 0) (lv' := [(3, _), (2, _), (0, _), (1, _)]) M dX2_sum_27 hl rfl (by decide) rfl (fun ls hl => ?_)
          refine lv_goto (tgt := 4) hx hb dX2_sum_30 (by decide) ?_
          exact ih (i + 1) (by omega) (by omega) _ _ C _ (lv_sub hl [0, 1, 2, 3] rfl)
        · have e := F1 i h7 h15
          refine lv_iload_n hx hb dX2_sum_18 rfl (lv_at hl 1 rfl) ?_
          refine lv_aload_n hx hb dX2_sum_19 rfl (lv_at hl 2 rfl) ?_
          refine md_g_wd M C dX2_sum_20 ?_
          refine lv_iload_n hx hb dX2_sum_23 rfl (lv_at hl 0 rfl) ?_
          refine md_l_wd M C (by omega) dX2_sum_24 ?_
          refine lv_iadd hx hb dX2_sum_25 ?_
          rw [← e]
          refine lv_istore_n (lv' := [(2, _), (3, _), (0, _), (1, _)]) hx hb dX2_sum_26 rfl hl (by decide) rfl (fun ls hl => ?_)
          refine pz_iinc1 (k := 1) (lv' := [(3, _), (2, _), (0, _), (1, _)]) M dX2_sum_27 hl rfl (by decide) rfl (fun ls hl => ?_)
          refine lv_goto (tgt := 4) hx hb dX2_sum_30 (by decide) ?_
          exact ih (i + 1) (by omega) (by omega) _ _ C _ (lv_sub hl [0, 1, 2, 3] rfl)
  have F0c : Int32.ofInt 0 = F 0 := Fz.symm
  refine lv_iconst (v := F 0) hx hb dX2_sum_0 F0c ?_
  refine lv_istore_n (lv' := [(2, _), (0, _), (1, _)]) hx hb dX2_sum_1 rfl hl (by decide) rfl (fun ls hl => ?_)
  refine lv_iconst (v := nI 0) hx hb dX2_sum_2 (by decide +kernel) ?_
  refine lv_istore_n (lv' := [(3, _), (2, _), (0, _), (1, _)]) hx hb dX2_sum_3 rfl hl (by decide) rfl (fun ls hl => ?_)
  exact lp 97 0 (by omega) (by omega) _ _ C _ (lv_sub hl [0, 1, 2, 3] rfl)
set_option maxHeartbeats 4000000 in
set_option maxRecDepth 100000 in
/-- plain -/
theorem mtX2_plain {l : Launch} {g : pz_G} {ad : Nat → Nat} {μ : md_S}   : pz_Mi l yX2_plain cX2_plain 5 .int ({ frames := 4, cells := 0, slots := 0, locals := 120 }) (md_W g ad) g μ [.ref (ad 0)] (fun r u => r = mp_r μ ∧ u = μ) := by
  obtain ⟨wd, re⟩ := μ
  refine pz_enterI (by decide) (Nat.le_of_ble_eq_true rfl) ?_
  intro p e s m args below meth c A Q M hA ret C ls hl
  have hx := M.1
  have hb := M.2.1
  have hl : lv_has ls 5 [(0, .ref (ad 0))] := hl
  have lp : ∀ (k i n : Nat), i ≤ 24 → 25 ≤ i + k → n = md_ct (fun p => md_pl (wd, re).1 p && !((wd, re).2 p)) i → ∀ (H : Heap) (locs : List Loc), pz_C (md_W g ad) g A s (wd, re) H locs → ∀ ls : Array Slot, lv_has ls 5 [(2, .int (nI i)), (1, .int (nI n)), (0, .ref (ad 0))] → W p l e ({ frames := 4, cells := 0, slots := 0, locals := 120 }) s m args below meth c H locs 0 0 Q (F0 m 4 ls []) := by
    intro k
    induction k with
    | zero => intro i n _ h; omega
    | succ k ih =>
      intro i n hi hk en H locs C ls hl
      refine lv_iload_n hx hb dX2_plain_4 rfl (lv_at hl 0 rfl) ?_
      refine lv_bipush (v := nI 24) hx hb dX2_plain_5 (by decide +kernel) ?_
      refine pz_cge (tgt := 80) M (by omega) (by omega) dX2_plain_7 (by decide) (fun h7 => ?_) (fun h7 => ?_)
      · refine lv_iload_n hx hb dX2_plain_80 rfl (lv_at hl 1 rfl) ?_
        exact ret _ _ _ _ _ _ C dX2_plain_81 rfl ⟨by rw [en, show i = 24 by omega]; rfl, rfl⟩
      · have lq : ∀ (k2 j : Nat) (o : Bool), 1 ≤ j → j ≤ 4 → 5 ≤ j + k2 → (o = true ↔ ∀ v, v < j → wd (i * 4 + v) = wd (i * 4)) → ∀ (H : Heap) (locs : List Loc), pz_C (md_W g ad) g A s (wd, re) H locs → ∀ ls : Array Slot, lv_has ls 5 [(4, .int (nI j)), (3, .int (pz_b o)), (2, .int (nI i)), (1, .int (nI n)), (0, .ref (ad 0))] → W p l e ({ frames := 4, cells := 0, slots := 0, locals := 120 }) s m args below meth c H locs 0 0 Q (F0 m 15 ls []) := by
          intro k2
          induction k2 with
          | zero => intro j o _ _ h; omega
          | succ k2 ih2 =>
            intro j o hj1 hj hk2 ho H locs C ls hl
            refine lv_iload hx hb dX2_plain_15 (lv_at hl 0 rfl) ?_
            refine lv_iconst (v := nI 4) hx hb dX2_plain_17 (by decide +kernel) ?_
            refine pz_cge (tgt := 59) M (by omega) (by omega) dX2_plain_18 (by decide) (fun h18 => ?_) (fun h18 => ?_)
            · have e4 : o = md_pl wd i := by
                have e5 : o = true ↔ md_pl wd i = true := by rw [pl_iff, ho, show j = 4 by omega]
                cases o <;> cases hh : md_pl wd i <;> simp [hh] at e5 ⊢
              refine lv_iload_n hx hb dX2_plain_59 rfl (lv_at hl 1 rfl) ?_
              refine pz_beq (tgt := 74) M dX2_plain_60 (by decide) (fun h60 => ?_) (fun h60 => ?_)
              · refine pz_iinc1 (k := 2) (lv' := [(2, _), (4, _), (3, _), (1, _), (0, _)]) M dX2_plain_74 hl rfl (by decide) rfl (fun ls hl => ?_)
                refine lv_goto (tgt := 4) hx hb dX2_plain_77 (by decide) ?_
                exact ih (i + 1) n (by omega) (by omega) (ct_s0 en (by rw [show md_pl (wd, re).1 i = false from e4.symm.trans h60]; rfl)) _ _ C _ (lv_sub hl [0, 3, 4] rfl)
              · refine lv_aload_n hx hb dX2_plain_63 rfl (lv_at hl 4 rfl) ?_
                refine lv_iload_n hx hb dX2_plain_64 rfl (lv_at hl 2 rfl) ?_
                refine pz_calli M hA C rfl rfl iX2_25 mtX2_held ⟨Nat.le_of_ble_eq_true rfl, Nat.le_of_ble_eq_true rfl⟩ ⟨rfl, rfl⟩ rfl hl.1 rfl (Nat.le_of_ble_eq_true rfl) dX2_plain_65 ⟨Nat.le_of_ble_eq_true rfl, Nat.le_of_ble_eq_true rfl⟩ (fun r u H locs hp C => ?_)
                obtain ⟨rfl, rfl⟩ := hp
                rw [(ml_2 (by omega)).2.2]
                refine pz_beq (tgt := 74) M dX2_plain_68 (by decide) (fun h68 => ?_) (fun h68 => ?_)
                · have h68 : re i = true := by cases e : re i with | true => rfl | false => rw [show (wd, re).2 i = false from e] at h68; cases h68
                  refine pz_iinc1 (k := 2) (lv' := [(2, _), (4, _), (3, _), (1, _), (0, _)]) M dX2_plain_74 hl rfl (by decide) rfl (fun ls hl => ?_)
                  refine lv_goto (tgt := 4) hx hb dX2_plain_77 (by decide) ?_
                  exact ih (i + 1) n (by omega) (by omega) (ct_s0 en (by rw [show (wd, re).2 i = true from h68]; cases md_pl (wd, re).1 i <;> rfl)) _ _ C _ (lv_sub hl [0, 3, 4] rfl)
                · have h68 : re i = false := by cases e : re i with | false => rfl | true => rw [show (wd, re).2 i = true from e] at h68; cases h68
                  refine pz_iinc1 (k := 3) (lv' := [(1, _), (4, _), (3, _), (2, _), (0, _)]) M dX2_plain_71 hl rfl (by decide) rfl (fun ls hl => ?_)
                  refine pz_iinc1 (k := 3) (lv' := [(2, _), (1, _), (4, _), (3, _), (0, _)]) M dX2_plain_74 hl rfl (by decide) rfl (fun ls hl => ?_)
                  refine lv_goto (tgt := 4) hx hb dX2_plain_77 (by decide) ?_
                  exact ih (i + 1) (n + 1) (by omega) (by omega) (ct_s1 en (by rw [show (wd, re).2 i = false from h68, show md_pl (wd, re).1 i = true from e4.symm.trans h60]; rfl)) _ _ C _ (lv_sub hl [0, 1, 4] rfl)
            · refine lv_iload_n hx hb dX2_plain_21 rfl (lv_at hl 1 rfl) ?_
              refine pz_beq (tgt := 51) M dX2_plain_22 (by decide) (fun h22 => ?_) (fun h22 => ?_)
              · refine lv_iconst (v := pz_b false) hx hb dX2_plain_51 (by decide +kernel) ?_
                refine lv_istore_n (lv' := [(3, _), (4, _), (2, _), (1, _), (0, _)]) hx hb dX2_plain_52 rfl hl (by decide) rfl (fun ls hl => ?_)
                refine pz_iinc1 (k := 1) (lv' := [(4, _), (3, _), (2, _), (1, _), (0, _)]) M dX2_plain_53 hl rfl (by decide) rfl (fun ls hl => ?_)
                refine lv_goto (tgt := 15) hx hb dX2_plain_56 (by decide) ?_
                exact ih2 (j + 1) _ (by omega) (by omega) (by omega) (one_s ho ⟨fun h => (by cases h), fun h => (by rw [h22] at h; cases h.1)⟩) _ _ C _ (lv_sub hl [0, 1, 2, 3, 4] rfl)
              · refine lv_aload_n hx hb dX2_plain_25 rfl (lv_at hl 4 rfl) ?_
                refine md_g_wd M C dX2_plain_26 ?_
                refine lv_iload_n hx hb dX2_plain_29 rfl (lv_at hl 2 rfl) ?_
                refine lv_iconst (v := nI 4) hx hb dX2_plain_30 (by decide +kernel) ?_
                refine pz_imulN M dX2_plain_31 ?_
                refine lv_iload hx hb dX2_plain_32 (lv_at hl 0 rfl) ?_
                refine pz_iaddN M dX2_plain_34 ?_
                refine md_l_wd M C (by omega) dX2_plain_35 ?_
                refine lv_aload_n hx hb dX2_plain_36 rfl (lv_at hl 4 rfl) ?_
                refine md_g_wd M C dX2_plain_37 ?_
                refine lv_iload_n hx hb dX2_plain_40 rfl (lv_at hl 2 rfl) ?_
                refine lv_iconst (v := nI 4) hx hb dX2_plain_41 (by decide +kernel) ?_
                refine pz_imulN M dX2_plain_42 ?_
                refine md_l_wd M C (by omega) dX2_plain_43 ?_
                refine lv_icmp_ne (tgt := 51) hx hb dX2_plain_44 (by decide) (fun h44 => ?_) (fun h44 => ?_)
                · refine lv_iconst (v := pz_b false) hx hb dX2_plain_51 (by decide +kernel) ?_
                  refine lv_istore_n (lv' := [(3, _), (4, _), (2, _), (1, _), (0, _)]) hx hb dX2_plain_52 rfl hl (by decide) rfl (fun ls hl => ?_)
                  refine pz_iinc1 (k := 1) (lv' := [(4, _), (3, _), (2, _), (1, _), (0, _)]) M dX2_plain_53 hl rfl (by decide) rfl (fun ls hl => ?_)
                  refine lv_goto (tgt := 15) hx hb dX2_plain_56 (by decide) ?_
                  exact ih2 (j + 1) _ (by omega) (by omega) (by omega) (one_s ho ⟨fun h => (by cases h), fun h => absurd h.2 h44⟩) _ _ C _ (lv_sub hl [0, 1, 2, 3, 4] rfl)
                · refine lv_iconst (v := pz_b true) hx hb dX2_plain_47 (by decide +kernel) ?_
                  refine lv_goto (tgt := 52) hx hb dX2_plain_48 (by decide) ?_
                  refine lv_istore_n (lv' := [(3, _), (4, _), (2, _), (1, _), (0, _)]) hx hb dX2_plain_52 rfl hl (by decide) rfl (fun ls hl => ?_)
                  refine pz_iinc1 (k := 1) (lv' := [(4, _), (3, _), (2, _), (1, _), (0, _)]) M dX2_plain_53 hl rfl (by decide) rfl (fun ls hl => ?_)
                  refine lv_goto (tgt := 15) hx hb dX2_plain_56 (by decide) ?_
                  exact ih2 (j + 1) _ (by omega) (by omega) (by omega) (one_s ho ⟨fun _ => ⟨h22, h44⟩, fun _ => rfl⟩) _ _ C _ (lv_sub hl [0, 1, 2, 3, 4] rfl)
        refine lv_iconst (v := pz_b true) hx hb dX2_plain_10 (by decide +kernel) ?_
        refine lv_istore_n (lv' := [(3, _), (2, _), (1, _), (0, _)]) hx hb dX2_plain_11 rfl hl (by decide) rfl (fun ls hl => ?_)
        refine lv_iconst (v := nI 1) hx hb dX2_plain_12 (by decide +kernel) ?_
        refine lv_istore (lv' := [(4, _), (3, _), (2, _), (1, _), (0, _)]) hx hb dX2_plain_13 hl (by decide) rfl (fun ls hl => ?_)
        exact lq 5 1 true (by omega) (by omega) (by omega) (one_0 wd i) _ _ C _ (lv_sub hl [0, 1, 2, 3, 4] rfl)
  refine lv_iconst (v := nI 0) hx hb dX2_plain_0 (by decide +kernel) ?_
  refine lv_istore_n (lv' := [(1, _), (0, _)]) hx hb dX2_plain_1 rfl hl (by decide) rfl (fun ls hl => ?_)
  refine lv_iconst (v := nI 0) hx hb dX2_plain_2 (by decide +kernel) ?_
  refine lv_istore_n (lv' := [(2, _), (1, _), (0, _)]) hx hb dX2_plain_3 rfl hl (by decide) rfl (fun ls hl => ?_)
  exact lp 25 0 0 (by omega) (by omega) rfl _ _ C _ (lv_sub hl [0, 1, 2] rfl)
end
section
set_option maxRecDepth 100000
/-! THE CLAIM OUT OF ONE WALK OF THE LAW'S BODY. Your part is whole_start (and what it stands on); all else here is the same for every law, but numbers. -/
def R_law : String := "PageMergerLaw"
def lw_P (b : Addr) (xs : List Int32) (args : Array Value) (s : State) : Prop := args = #[.ref b] ∧ s.IntsAt b xs ∧ xs.length ≤ 257 ∧ (Jvm.Cond.and given_1 narrow_1).before args s = true
def lw_Q (_ : Array Value) (s : State) (o : Outcome) (t : State) : Prop := o = .returned (some (.int 1)) ∧ Framed s o t [] 600000 7290000
def lw_Z (below : List Frame) (a : Array Value) (s : State) : State → Prop := fun t => ∃ o, t.status = .running ∧ Ended t below o ∧ lw_Q a s o t
/-- the law's own end, with 1 on the stack, nothing written that was there before, its room as the claim has it -/
theorem lw_ret {p : Program} {l : Launch} {e : Env} {s : State} {m : MethodId} {below : List Frame} {meth : Method} {c : Code} {b : Nat} (hx : p.tables.exec = Jvm.exec) (hb : c.code = code) (hr : meth.sig.returnType = ret) (hlocks : meth.locks = false) {pc : Nat} {H : Heap} {ls : Array Slot} (hdg : decode code pc = .ok (.ireturn, 1)) : W p l e room_1 s m #[Value.ref b] below meth c H [] 600000 7290000 (lw_Z below #[Value.ref b] s) (F0 m pc ls [.int 1]) := by
  intro T hT X
  obtain ⟨fs, hret, hrun, hended, hW, hframe⟩ := X.leave (v := some (.int 1)) (hlocks := hlocks) (fun h => by rw [hr] at h; cases h)
  have hmeth' : T.vm.method? m = some meth := X.method'
  refine ⟨T.setFrames fs, ?_, .returned (some (.int 1)), hrun, hended, rfl, ⟨_, rfl⟩, hW, hframe⟩
  jvm_step X.here [X.here.top, hx, hb, hdg, hmeth', hr, ret, narrow_b1]
  (try refine ⟨rfl, ?_⟩); (try refine ⟨rfl, ?_⟩)
  first | (intro acts; rw [hret _ acts rfl rfl rfl]) | rw [hret _ _ rfl rfl rfl]
  exact Steps.refl _
/-- what holds at the law's entry: the machine, the code, the tables' words (any of lw_tbl by 'hts w (by decide +kernel)'), the script of L ints xs at the cell b, what the Statement gives of the start (any of its parts by flat_of_before) -/
def lw_At (p : Program) (s : State) (m : MethodId) (meth : Method) (c : Code) (b L : Nat) (xs : Nat → Int32) : Prop :=
  p.tables.exec = Jvm.exec ∧ c.code = code ∧ meth.sig.returnType = ret ∧ c.maxLocals = 4 ∧ s.vm.findClass R_law = some m.cls ∧ (∀ w ∈ lw_tbl, w.before #[Value.ref b] s = true) ∧ va_X b L xs s s.heap ∧ b < s.heap.size ∧ meth.locks = false ∧ (Jvm.Cond.and given_1 narrow_1).before #[Value.ref b] s = true
end
section
/-! the law: two worlds side by side, calls in them, the script's cells -/
set_option maxRecDepth 100000
def lw_D (w1 w2 : va_W) : Prop := ∀ (i j : Nat) (x y : Nat × va_E), w1[i]? = some x → w2[j]? = some y → x.1 ≠ y.1
theorem lw_D.sy {w1 w2 : va_W} (h : lw_D w1 w2) : lw_D w2 w1 := fun i j x y hx hy e => h j i y x hy hx e.symm
theorem lw_keep {D : va_G} {cl : List vw_C} {wc w2 : va_W} {H H1 : Heap} (hP : va_P D cl w2 H) (hap : lw_D wc w2) (hk : ∀ q : Nat, q < H.size → ¬ va_A wc H.size q → H1[q]? = H[q]?) : va_P D cl w2 H1 := by
  refine hP.kept (fun k q hq => hk q.1 ((hP k q hq).lt) (fun h => ?_))
  rcases h with ⟨k2, e, h⟩ | h
  · exact hap k2 k _ q h hq rfl
  · exact absurd ((hP k q hq).lt) (Nat.not_lt.mpr h)
theorem lw_apart {D : va_G} {cl : List vw_C} {wc w1 w2 : va_W} {H : Heap} (hP : va_P D cl w2 H) (hap : lw_D wc w2) (hD : va_D (va_A wc H.size) w1) : lw_D w1 w2 := by
  intro i j x y hx hy e
  rcases hD.2 i x hx with ⟨k, e2, h⟩ | h
  · exact hap k j _ y h hy e
  · have hl := (hP j y hy).lt
    rw [← e] at hl
    exact absurd hl (Nat.not_lt.mpr h)
theorem lw_split {A : Nat → Prop} {w1 w2 : va_W} (h : va_D A (w1 ++ w2)) : va_D A w1 ∧ va_D A w2 ∧ lw_D w1 w2 := by
  have e1 : ∀ (i : Nat) (x : Nat × va_E), w1[i]? = some x → (w1 ++ w2)[i]? = some x := fun i x h => by
    rw [List.getElem?_append_left (List.getElem?_eq_some_iff.mp h).1]
    exact h
  have e2 : ∀ (j : Nat) (y : Nat × va_E), w2[j]? = some y → (w1 ++ w2)[w1.length + j]? = some y := fun j y h => by
    rw [List.getElem?_append_right (Nat.le_add_right _ _), Nat.add_sub_cancel_left]
    exact h
  refine ⟨⟨fun i j x y hx hy e => h.1 i j x y (e1 _ _ hx) (e1 _ _ hy) e, fun k q hk => h.2 _ q (e1 _ _ hk)⟩, ⟨fun i j x y hx hy e => ?_, fun k q hk => h.2 _ q (e2 _ _ hk)⟩, fun i j x y hx hy e => ?_⟩
  · have a := h.1 _ _ x y (e2 _ _ hx) (e2 _ _ hy) e
    omega
  · have a := h.1 _ _ x y (e1 _ _ hx) (e2 _ _ hy) e
    have b := (List.getElem?_eq_some_iff.mp hx).1
    omega
theorem lw_splitP {D : va_G} {cl : List vw_C} {w1 w2 : va_W} {H : Heap} (h : va_P D cl (w1 ++ w2) H) : va_P D cl w1 H ∧ va_P D cl w2 H := by
  refine ⟨fun k q hk => h k q ?_, fun k q hk => h (w1.length + k) q ?_⟩
  · rw [List.getElem?_append_left (List.getElem?_eq_some_iff.mp hk).1]
    exact hk
  · rw [List.getElem?_append_right (Nat.le_add_right _ _), Nat.add_sub_cancel_left]
    exact hk
theorem pm_W_0 (g : pz_G) (ad : Nat → Nat) (σ : pm_S) : ∃ fs : List Value, (pm_W g ad σ)[0]? = some (ad 0, .inr (0, fs)) := by
  obtain ⟨fr, hd, sc, fo, wh, to, ho, me, ru, rl, fv, sv, au, ai⟩ := σ
  exact ⟨_, rfl⟩
abbrev lw_A (s : State) : Nat → Prop := fun q => s.heap.size ≤ q
theorem lw_le {L i : Nat} (hL : L ≤ 257) (hi : i ≤ 300) (h : ¬ Int32.ofNat L - nI 4 < nI i) : i + 4 ≤ L := by
  have h : ¬ nI L - nI 4 < nI i := h
  rw [Int32.lt_iff_toInt_lt, pk_sub_toInt (by omega) (by omega), nI_toInt (by omega)] at h
  omega
section LWC
variable {p : Program} {l : Launch} {e : Env} {R : Room} {s : State} {m : MethodId} {args : Array Value} {below : List Frame} {meth : Method} {c : Code} {H : Heap} {locs : List Loc} {cells slots : Nat} {Q : State → Prop}
variable {cc : ByteArray} {pc : Nat} {ls : Array Slot} {rest : List Value} {S S2 : Type} {Wd : S → va_W} {Wd2 : S2 → va_W} {g : pz_G} {A : Nat → Prop} {σ : S} {μ : S2} {own : String} {nL : Nat}
variable {y : MethodName} {b : ByteArray} {L n idx : Nat} {ty : FieldType} {rm : Room} {As st : List Value} {a0 ci : Nat} {fs : List Value} {qc : vw_C}
theorem lw_calli (M : CallFix p m c cc nL s args lw_all own) (hA : ∀ q : Nat, s.heap.size ≤ q → A q) (C : pz_C Wd g A s σ H locs) (C2 : pz_C Wd2 g A s μ H locs) (hap : lw_D (Wd σ) (Wd2 μ)) (h0 : (Wd σ)[0]? = some (a0, .inr (ci, fs))) (hc : pz_cl[ci]? = some qc) (I : pz_In own idx y qc.1 b L (some ty) n) {post : Int32 → S → Prop} (hM : pz_Mi l y b L ty rm Wd g σ (.ref a0 :: As) post) (hR : rm.frames + 1 ≤ R.frames ∧ 8 + (L + 11) + rm.locals ≤ R.locals) (hz : rm.cells = 0 ∧ rm.slots = 0) (hn : As.length = n) (hl : ls.size = nL) (hst : st = As.reverse ++ .ref a0 :: rest) (hW : (rest.map fun v => v.category).sum ≤ 8) (hdg : decode cc pc = .ok (.invokevirtual idx, 3)) (hf : cells + 0 ≤ R.cells ∧ slots + 0 ≤ R.slots)
    (kk : ∀ (r : Int32) (u : S) (H1 : Heap) (locs1 : List Loc), post r u → pz_C Wd g A s u H1 locs1 → pz_C Wd2 g A s μ H1 locs1 → lw_D (Wd u) (Wd2 μ) → W p l e R s m args below meth c H1 locs1 cells slots Q (F0 m (pc + 3) ls (.int r :: rest))) : W p l e R s m args below meth c H locs cells slots Q (F0 m pc ls st) := by
  obtain ⟨i1, i2, i3, i4, i5, i6⟩ := I
  have hFc := pz_freeA hA C
  refine va_calli (va_runV (As := As) (rest := rest) M (hM H.size) (cwV n M.2.2.2.2 (lw_V i1 i2 i3 i4 i5) rfl hz.1 hz.2 i6 hR) (pz_preV C h0 hc As) rfl hn hl hst (lv_room hW) hdg hf) C.2.2.2 (fun q _ h => hFc q h) hFc (fun r u t H1 locs1 ht hvm hw hB hz hk hS => ?_)
  obtain ⟨hP1, hK1, hD1⟩ := hB
  rw [ht] at hP1
  exact kk r u H1 locs1 hw ⟨va_K.moved hvm.symm hK1, hP1, hD1.weaken (fun k q _ h => hFc q.1 h), hS⟩ ⟨C2.1, lw_keep C2.2.1 hap hk, C2.2.2.1, hS⟩ (lw_apart C2.2.1 hap hD1)
theorem lw_callv (M : CallFix p m c cc nL s args lw_all own) (hA : ∀ q : Nat, s.heap.size ≤ q → A q) (C : pz_C Wd g A s σ H locs) (C2 : pz_C Wd2 g A s μ H locs) (hap : lw_D (Wd σ) (Wd2 μ)) (h0 : (Wd σ)[0]? = some (a0, .inr (ci, fs))) (hc : pz_cl[ci]? = some qc) (I : pz_In own idx y qc.1 b L none n) {post : S → Prop} (hM : pz_Mv l y b L rm Wd g σ (.ref a0 :: As) post) (hR : rm.frames + 1 ≤ R.frames ∧ 8 + (L + 11) + rm.locals ≤ R.locals) (hz : rm.cells = 0 ∧ rm.slots = 0) (hn : As.length = n) (hl : ls.size = nL) (hst : st = As.reverse ++ .ref a0 :: rest) (hW : (rest.map fun v => v.category).sum ≤ 8) (hdg : decode cc pc = .ok (.invokevirtual idx, 3)) (hf : cells + 0 ≤ R.cells ∧ slots + 0 ≤ R.slots)
    (kk : ∀ (u : S) (H1 : Heap) (locs1 : List Loc), post u → pz_C Wd g A s u H1 locs1 → pz_C Wd2 g A s μ H1 locs1 → lw_D (Wd u) (Wd2 μ) → W p l e R s m args below meth c H1 locs1 cells slots Q (F0 m (pc + 3) ls rest)) : W p l e R s m args below meth c H locs cells slots Q (F0 m pc ls st) := by
  obtain ⟨i1, i2, i3, i4, i5, i6⟩ := I
  have hFc := pz_freeA hA C
  refine va_callv (va_runV (As := As) (rest := rest) M (hM H.size) (cwV n M.2.2.2.2 (lw_V i1 i2 i3 i4 i5) rfl hz.1 hz.2 i6 hR) (pz_preV C h0 hc As) rfl hn hl hst (lv_room hW) hdg hf) C.2.2.2 (fun q _ h => hFc q h) hFc (fun u t H1 locs1 ht hvm hw hB hz hk hS => ?_)
  obtain ⟨hP1, hK1, hD1⟩ := hB
  rw [ht] at hP1
  exact kk u H1 locs1 hw ⟨va_K.moved hvm.symm hK1, hP1, hD1.weaken (fun k q _ h => hFc q.1 h), hS⟩ ⟨C2.1, lw_keep C2.2.1 hap hk, C2.2.2.1, hS⟩ (lw_apart C2.2.1 hap hD1)
theorem lw_sld (M : CallFix p m c cc nL s args lw_all own) {b0 L0 : Nat} {xs : Nat → Int32} (hX : va_X b0 L0 xs s s.heap) (hbl : b0 < s.heap.size) (hL : L0 ≤ 257) (hS : va_S (lw_A s) s.heap H locs) {k : Nat} (hk : k < L0) (hdg : decode cc pc = .ok (.iaload, 1)) (kk : W p l e R s m args below meth c H locs cells slots Q (F0 m (pc + 1) ls (.int (xs k) :: rest))) : W p l e R s m args below meth c H locs cells slots Q (F0 m pc ls (.int (nI k) :: .ref b0 :: rest)) :=
  va_sld (A := lw_A s) M.1 M.2.1 hX hbl (Nat.not_le.mpr hbl) hS (vp_in_nI hk (by omega)) hdg (by rw [nI_clamp (by omega)]; exact kk)
end LWC
set_option maxHeartbeats 4000000 in
theorem mtX0_cell {l : Launch} {b L : Nat} {xs : Nat → Int32} (hL : L ≤ 257) : Met l yX0_cell (ws_ yX0_cell cX0_cell 2 (some .int)) ({ frames := 0, cells := 0, slots := 0, locals := 0 }) (va_Pc [.ref b, .int (nI 0)] (fun U => va_X b L xs U U.heap ∧ b < U.heap.size)) (va_Qi (fun (_ : Int32) (_ : Unit) => True) (fun _ _ => True) (fun _ => False)) 0 0 (fun _ => False) := by
  refine Met.ofW (cc := cX0_cell) (maxL := 2) (ret := some .int) (by decide) rfl ?_
  intro p e s m args below meth c s₁ B hml hv
  obtain ⟨rfl, hX, hbl⟩ := hv
  have hx := B.exec
  have hb := B.bytes
  have hts := atoms_spec (ws := ws_ yX0_cell cX0_cell 2 (some .int)) B.pre
  have hts : ∀ w ∈ lw_all, w.before _ s = true := fun w h => hts w (List.mem_cons_of_mem _ h)
  have hown : s.vm.findClass RX0 = some m.cls := findClass_of_methodNamed B.named
  have hr := B.returns
  have hlk := B.notSynchronized
  have M : CallFix p m c cX0_cell 2 s ([.ref b, .int (nI 0)] : List Value).toArray lw_all RX0 := ⟨hx, hb, hml, hown, hts⟩
  have hl := lv_entry ([.ref b, .int (nI 0)]) (n := 2) (Nat.le_of_ble_eq_true rfl)
  rw [lg_entry_eq]
  generalize (lg_sl ([.ref b, .int (nI 0)]) ++ List.replicate (2 - (lg_sl ([.ref b, .int (nI 0)])).length) Slot.unset).toArray = ls at hl ⊢
  have hl : lv_has ls 2 [(0, .ref b), (1, .int (nI 0))] := hl
  refine lv_iload_n hx hb dX0_cell_0 rfl (lv_at hl 1 rfl) ?_
  refine lv_aload_n hx hb dX0_cell_1 rfl (lv_at hl 0 rfl) ?_
  refine va_slen (A := fun _ => False) hx hb hX hbl (fun h => h) va_S.rf dX0_cell_2 ?_
  refine lv_icmp_ge (tgt := 12) hx hb dX0_cell_3 (by decide) (fun h => ?_) (fun h => ?_)
  · refine lv_iconst (v := 0) hx hb dX0_cell_12 (by decide) ?_
    exact pz_rets (post := fun _ => True) M hr hlk rfl dX0_cell_13 trivial
  · have h0 : 0 < L := by
      rcases Nat.eq_zero_or_pos L with e | e
      · subst e
        exact absurd (Int32.le_refl _) h
      · exact e
    refine lv_aload_n hx hb dX0_cell_6 rfl (lv_at hl 0 rfl) ?_
    refine lv_iload_n hx hb dX0_cell_7 rfl (lv_at hl 1 rfl) ?_
    refine va_sld (A := fun _ => False) hx hb hX hbl (fun h => h) va_S.rf (vp_in_nI h0 (by omega)) dX0_cell_8 ?_
    refine lv_goto (tgt := 13) hx hb dX0_cell_9 (by decide) ?_
    exact pz_rets (post := fun _ => True) M hr hlk rfl dX0_cell_13 trivial
end
section
/-! the law's operations, from the switch to the end of the loop's body -/
set_option maxRecDepth 100000
/-- what is left to do behind an operation -/
def lw_K (p : Program) (l : Launch) (e : Env) (s : State) (m : MethodId) (args : Array Value) (below : List Frame) (meth : Method) (c : Code) (Q : State → Prop) (b : Nat) (g : pz_G) (ad ae : Nat → Nat) (i : Nat) : Prop :=
  ∀ (σ : pm_S) (μ : md_S) (H : Heap) (locs : List Loc), pm_Rl σ μ → pz_C (pm_W g ad) g (lw_A s) s σ H locs → pz_C (md_W g ae) g (lw_A s) s μ H locs → lw_D (pm_W g ad σ) (md_W g ae μ) → ∀ ls : Array Slot, lv_has ls 4 [(0, .ref b), (1, .ref (ad 0)), (2, .ref (ae 0)), (3, .int (nI i))] → W p l e room_1 s m args below meth c H locs 15 504 Q (F0 m 445 ls [])
section LWO
variable {p : Program} {l : Launch} {e : Env} {s : State} {m : MethodId} {args : Array Value} {below : List Frame} {meth : Method} {c : Code} {Q : State → Prop} {b L i : Nat} {xs : Nat → Int32} {g : pz_G} {ad ae : Nat → Nat} {σ : pm_S} {μ : md_S} {H : Heap} {locs : List Loc} {ls : Array Slot}
set_option maxHeartbeats 4000000 in
theorem lo_write (M : CallFix p m c cL_law 4 s args lw_all RX0) (hX : va_X b L xs s s.heap) (hbl : b < s.heap.size) (hL : L ≤ 257) (hi : i + 4 ≤ L) (K : lw_K p l e s m args below meth c Q b g ad ae i) (Rl : pm_Rl σ μ) (C1 : pz_C (pm_W g ad) g (lw_A s) s σ H locs) (C2 : pz_C (md_W g ae) g (lw_A s) s μ H locs) (hap : lw_D (pm_W g ad σ) (md_W g ae μ)) (hl : lv_has ls 4 [(0, .ref b), (1, .ref (ad 0)), (2, .ref (ae 0)), (3, .int (nI i))]) : W p l e room_1 s m args below meth c H locs 15 504 Q (F0 m 108 ls []) := by
  have hx := M.1
  have hb := M.2.1
  have hA : ∀ q : Nat, s.heap.size ≤ q → lw_A s q := fun _ h => h
  obtain ⟨fs1, h01⟩ := pm_W_0 g ad σ
  refine lv_aload_n hx hb dL_law_108 rfl (lv_at hl 1 rfl) ?_
  refine lv_aload_n hx hb dL_law_109 rfl (lv_at hl 0 rfl) ?_
  refine lv_iload_n hx hb dL_law_110 rfl (lv_at hl 3 rfl) ?_
  refine lv_iconst (v := nI 1) hx hb dL_law_111 (by decide +kernel) ?_
  refine pz_iaddN M dL_law_112 ?_
  refine lw_sld M hX hbl hL C1.2.2.2 (by omega) dL_law_113 ?_
  refine lv_aload_n hx hb dL_law_114 rfl (lv_at hl 0 rfl) ?_
  refine lv_iload_n hx hb dL_law_115 rfl (lv_at hl 3 rfl) ?_
  refine lv_iconst (v := nI 2) hx hb dL_law_116 (by decide +kernel) ?_
  refine pz_iaddN M dL_law_117 ?_
  refine lw_sld M hX hbl hL C1.2.2.2 (by omega) dL_law_118 ?_
  refine lv_aload_n hx hb dL_law_119 rfl (lv_at hl 0 rfl) ?_
  refine lv_iload_n hx hb dL_law_120 rfl (lv_at hl 3 rfl) ?_
  refine lv_iconst (v := nI 3) hx hb dL_law_121 (by decide +kernel) ?_
  refine pz_iaddN M dL_law_122 ?_
  refine lw_sld M hX hbl hL C1.2.2.2 (by omega) dL_law_123 ?_
  refine lw_calli M hA C1 C2 hap h01 rfl iX0_21 (mtX1_write Rl) ⟨Nat.le_of_ble_eq_true rfl, Nat.le_of_ble_eq_true rfl⟩ ⟨rfl, rfl⟩ rfl hl.1 rfl (Nat.le_of_ble_eq_true rfl) dL_law_124 ⟨Nat.le_of_ble_eq_true rfl, Nat.le_of_ble_eq_true rfl⟩ (fun r u H1 locs1 hp D1 D2 hap1 => ?_)
  obtain ⟨er, Rl1⟩ := hp
  refine lv_aload_n hx hb dL_law_127 rfl (lv_at hl 2 rfl) ?_
  refine lv_aload_n hx hb dL_law_128 rfl (lv_at hl 0 rfl) ?_
  refine lv_iload_n hx hb dL_law_129 rfl (lv_at hl 3 rfl) ?_
  refine lv_iconst (v := nI 1) hx hb dL_law_130 (by decide +kernel) ?_
  refine pz_iaddN M dL_law_131 ?_
  refine lw_sld M hX hbl hL D1.2.2.2 (by omega) dL_law_132 ?_
  refine lv_aload_n hx hb dL_law_133 rfl (lv_at hl 0 rfl) ?_
  refine lv_iload_n hx hb dL_law_134 rfl (lv_at hl 3 rfl) ?_
  refine lv_iconst (v := nI 2) hx hb dL_law_135 (by decide +kernel) ?_
  refine pz_iaddN M dL_law_136 ?_
  refine lw_sld M hX hbl hL D1.2.2.2 (by omega) dL_law_137 ?_
  refine lv_aload_n hx hb dL_law_138 rfl (lv_at hl 0 rfl) ?_
  refine lv_iload_n hx hb dL_law_139 rfl (lv_at hl 3 rfl) ?_
  refine lv_iconst (v := nI 3) hx hb dL_law_140 (by decide +kernel) ?_
  refine pz_iaddN M dL_law_141 ?_
  refine lw_sld M hX hbl hL D1.2.2.2 (by omega) dL_law_142 ?_
  refine lw_calli M hA D2 D1 hap1.sy rfl rfl iX0_25 mtX2_write ⟨Nat.le_of_ble_eq_true rfl, Nat.le_of_ble_eq_true rfl⟩ ⟨rfl, rfl⟩ rfl hl.1 rfl (Nat.le_of_ble_eq_true rfl) dL_law_143 ⟨Nat.le_of_ble_eq_true rfl, Nat.le_of_ble_eq_true rfl⟩ (fun r2 u2 H2 locs2 hp E2 E1 hap2 => ?_)
  obtain ⟨er2, ev⟩ := hp
  rw [← ev] at Rl1
  refine lv_icmp_eq (tgt := 445) hx hb dL_law_146 (by decide) (fun _ => K _ _ _ _ Rl1 E1 E2 hap2.sy _ hl) (fun h => absurd (er.trans er2.symm) h)
set_option maxHeartbeats 4000000 in
theorem lo_fill (M : CallFix p m c cL_law 4 s args lw_all RX0) (hX : va_X b L xs s s.heap) (hbl : b < s.heap.size) (hL : L ≤ 257) (hi : i + 4 ≤ L) (K : lw_K p l e s m args below meth c Q b g ad ae i) (Rl : pm_Rl σ μ) (C1 : pz_C (pm_W g ad) g (lw_A s) s σ H locs) (C2 : pz_C (md_W g ae) g (lw_A s) s μ H locs) (hap : lw_D (pm_W g ad σ) (md_W g ae μ)) (hl : lv_has ls 4 [(0, .ref b), (1, .ref (ad 0)), (2, .ref (ae 0)), (3, .int (nI i))]) : W p l e room_1 s m args below meth c H locs 15 504 Q (F0 m 151 ls []) := by
  have hx := M.1
  have hb := M.2.1
  have hA : ∀ q : Nat, s.heap.size ≤ q → lw_A s q := fun _ h => h
  obtain ⟨fs1, h01⟩ := pm_W_0 g ad σ
  refine lv_aload_n hx hb dL_law_151 rfl (lv_at hl 1 rfl) ?_
  refine lv_aload_n hx hb dL_law_152 rfl (lv_at hl 0 rfl) ?_
  refine lv_iload_n hx hb dL_law_153 rfl (lv_at hl 3 rfl) ?_
  refine lv_iconst (v := nI 1) hx hb dL_law_154 (by decide +kernel) ?_
  refine pz_iaddN M dL_law_155 ?_
  refine lw_sld M hX hbl hL C1.2.2.2 (by omega) dL_law_156 ?_
  refine lv_aload_n hx hb dL_law_157 rfl (lv_at hl 0 rfl) ?_
  refine lv_iload_n hx hb dL_law_158 rfl (lv_at hl 3 rfl) ?_
  refine lv_iconst (v := nI 2) hx hb dL_law_159 (by decide +kernel) ?_
  refine pz_iaddN M dL_law_160 ?_
  refine lw_sld M hX hbl hL C1.2.2.2 (by omega) dL_law_161 ?_
  refine lw_calli M hA C1 C2 hap h01 rfl iX0_26 (mtX1_fill Rl) ⟨Nat.le_of_ble_eq_true rfl, Nat.le_of_ble_eq_true rfl⟩ ⟨rfl, rfl⟩ rfl hl.1 rfl (Nat.le_of_ble_eq_true rfl) dL_law_162 ⟨Nat.le_of_ble_eq_true rfl, Nat.le_of_ble_eq_true rfl⟩ (fun r u H1 locs1 hp D1 D2 hap1 => ?_)
  obtain ⟨er, Rl1⟩ := hp
  refine lv_aload_n hx hb dL_law_165 rfl (lv_at hl 2 rfl) ?_
  refine lv_aload_n hx hb dL_law_166 rfl (lv_at hl 0 rfl) ?_
  refine lv_iload_n hx hb dL_law_167 rfl (lv_at hl 3 rfl) ?_
  refine lv_iconst (v := nI 1) hx hb dL_law_168 (by decide +kernel) ?_
  refine pz_iaddN M dL_law_169 ?_
  refine lw_sld M hX hbl hL D1.2.2.2 (by omega) dL_law_170 ?_
  refine lv_aload_n hx hb dL_law_171 rfl (lv_at hl 0 rfl) ?_
  refine lv_iload_n hx hb dL_law_172 rfl (lv_at hl 3 rfl) ?_
  refine lv_iconst (v := nI 2) hx hb dL_law_173 (by decide +kernel) ?_
  refine pz_iaddN M dL_law_174 ?_
  refine lw_sld M hX hbl hL D1.2.2.2 (by omega) dL_law_175 ?_
  refine lw_calli M hA D2 D1 hap1.sy rfl rfl iX0_30 mtX2_fill ⟨Nat.le_of_ble_eq_true rfl, Nat.le_of_ble_eq_true rfl⟩ ⟨rfl, rfl⟩ rfl hl.1 rfl (Nat.le_of_ble_eq_true rfl) dL_law_176 ⟨Nat.le_of_ble_eq_true rfl, Nat.le_of_ble_eq_true rfl⟩ (fun r2 u2 H2 locs2 hp E2 E1 hap2 => ?_)
  obtain ⟨er2, ev⟩ := hp
  rw [← ev] at Rl1
  refine lv_icmp_eq (tgt := 445) hx hb dL_law_179 (by decide) (fun _ => K _ _ _ _ Rl1 E1 E2 hap2.sy _ hl) (fun h => absurd (er.trans er2.symm) h)
set_option maxHeartbeats 4000000 in
theorem lo_copy (M : CallFix p m c cL_law 4 s args lw_all RX0) (hX : va_X b L xs s s.heap) (hbl : b < s.heap.size) (hL : L ≤ 257) (hi : i + 4 ≤ L) (K : lw_K p l e s m args below meth c Q b g ad ae i) (Rl : pm_Rl σ μ) (C1 : pz_C (pm_W g ad) g (lw_A s) s σ H locs) (C2 : pz_C (md_W g ae) g (lw_A s) s μ H locs) (hap : lw_D (pm_W g ad σ) (md_W g ae μ)) (hl : lv_has ls 4 [(0, .ref b), (1, .ref (ad 0)), (2, .ref (ae 0)), (3, .int (nI i))]) : W p l e room_1 s m args below meth c H locs 15 504 Q (F0 m 184 ls []) := by
  have hx := M.1
  have hb := M.2.1
  have hA : ∀ q : Nat, s.heap.size ≤ q → lw_A s q := fun _ h => h
  obtain ⟨fs1, h01⟩ := pm_W_0 g ad σ
  refine lv_aload_n hx hb dL_law_184 rfl (lv_at hl 1 rfl) ?_
  refine lv_aload_n hx hb dL_law_185 rfl (lv_at hl 0 rfl) ?_
  refine lv_iload_n hx hb dL_law_186 rfl (lv_at hl 3 rfl) ?_
  refine lv_iconst (v := nI 1) hx hb dL_law_187 (by decide +kernel) ?_
  refine pz_iaddN M dL_law_188 ?_
  refine lw_sld M hX hbl hL C1.2.2.2 (by omega) dL_law_189 ?_
  refine lv_aload_n hx hb dL_law_190 rfl (lv_at hl 0 rfl) ?_
  refine lv_iload_n hx hb dL_law_191 rfl (lv_at hl 3 rfl) ?_
  refine lv_iconst (v := nI 2) hx hb dL_law_192 (by decide +kernel) ?_
  refine pz_iaddN M dL_law_193 ?_
  refine lw_sld M hX hbl hL C1.2.2.2 (by omega) dL_law_194 ?_
  refine lw_calli M hA C1 C2 hap h01 rfl iX0_31 (mtX1_copy Rl) ⟨Nat.le_of_ble_eq_true rfl, Nat.le_of_ble_eq_true rfl⟩ ⟨rfl, rfl⟩ rfl hl.1 rfl (Nat.le_of_ble_eq_true rfl) dL_law_195 ⟨Nat.le_of_ble_eq_true rfl, Nat.le_of_ble_eq_true rfl⟩ (fun r u H1 locs1 hp D1 D2 hap1 => ?_)
  obtain ⟨er, Rl1⟩ := hp
  refine lv_aload_n hx hb dL_law_198 rfl (lv_at hl 2 rfl) ?_
  refine lv_aload_n hx hb dL_law_199 rfl (lv_at hl 0 rfl) ?_
  refine lv_iload_n hx hb dL_law_200 rfl (lv_at hl 3 rfl) ?_
  refine lv_iconst (v := nI 1) hx hb dL_law_201 (by decide +kernel) ?_
  refine pz_iaddN M dL_law_202 ?_
  refine lw_sld M hX hbl hL D1.2.2.2 (by omega) dL_law_203 ?_
  refine lv_aload_n hx hb dL_law_204 rfl (lv_at hl 0 rfl) ?_
  refine lv_iload_n hx hb dL_law_205 rfl (lv_at hl 3 rfl) ?_
  refine lv_iconst (v := nI 2) hx hb dL_law_206 (by decide +kernel) ?_
  refine pz_iaddN M dL_law_207 ?_
  refine lw_sld M hX hbl hL D1.2.2.2 (by omega) dL_law_208 ?_
  refine lw_calli M hA D2 D1 hap1.sy rfl rfl iX0_34 mtX2_copy ⟨Nat.le_of_ble_eq_true rfl, Nat.le_of_ble_eq_true rfl⟩ ⟨rfl, rfl⟩ rfl hl.1 rfl (Nat.le_of_ble_eq_true rfl) dL_law_209 ⟨Nat.le_of_ble_eq_true rfl, Nat.le_of_ble_eq_true rfl⟩ (fun r2 u2 H2 locs2 hp E2 E1 hap2 => ?_)
  obtain ⟨er2, ev⟩ := hp
  rw [← ev] at Rl1
  refine lv_icmp_eq (tgt := 445) hx hb dL_law_212 (by decide) (fun _ => K _ _ _ _ Rl1 E1 E2 hap2.sy _ hl) (fun h => absurd (er.trans er2.symm) h)
set_option maxHeartbeats 4000000 in
theorem lo_swap (M : CallFix p m c cL_law 4 s args lw_all RX0) (hX : va_X b L xs s s.heap) (hbl : b < s.heap.size) (hL : L ≤ 257) (hi : i + 4 ≤ L) (K : lw_K p l e s m args below meth c Q b g ad ae i) (Rl : pm_Rl σ μ) (C1 : pz_C (pm_W g ad) g (lw_A s) s σ H locs) (C2 : pz_C (md_W g ae) g (lw_A s) s μ H locs) (hap : lw_D (pm_W g ad σ) (md_W g ae μ)) (hl : lv_has ls 4 [(0, .ref b), (1, .ref (ad 0)), (2, .ref (ae 0)), (3, .int (nI i))]) : W p l e room_1 s m args below meth c H locs 15 504 Q (F0 m 217 ls []) := by
  have hx := M.1
  have hb := M.2.1
  have hA : ∀ q : Nat, s.heap.size ≤ q → lw_A s q := fun _ h => h
  obtain ⟨fs1, h01⟩ := pm_W_0 g ad σ
  refine lv_aload_n hx hb dL_law_217 rfl (lv_at hl 1 rfl) ?_
  refine lv_aload_n hx hb dL_law_218 rfl (lv_at hl 0 rfl) ?_
  refine lv_iload_n hx hb dL_law_219 rfl (lv_at hl 3 rfl) ?_
  refine lv_iconst (v := nI 1) hx hb dL_law_220 (by decide +kernel) ?_
  refine pz_iaddN M dL_law_221 ?_
  refine lw_sld M hX hbl hL C1.2.2.2 (by omega) dL_law_222 ?_
  refine lv_aload_n hx hb dL_law_223 rfl (lv_at hl 0 rfl) ?_
  refine lv_iload_n hx hb dL_law_224 rfl (lv_at hl 3 rfl) ?_
  refine lv_iconst (v := nI 2) hx hb dL_law_225 (by decide +kernel) ?_
  refine pz_iaddN M dL_law_226 ?_
  refine lw_sld M hX hbl hL C1.2.2.2 (by omega) dL_law_227 ?_
  refine lw_calli M hA C1 C2 hap h01 rfl iX0_35 (mtX1_swap Rl) ⟨Nat.le_of_ble_eq_true rfl, Nat.le_of_ble_eq_true rfl⟩ ⟨rfl, rfl⟩ rfl hl.1 rfl (Nat.le_of_ble_eq_true rfl) dL_law_228 ⟨Nat.le_of_ble_eq_true rfl, Nat.le_of_ble_eq_true rfl⟩ (fun r u H1 locs1 hp D1 D2 hap1 => ?_)
  obtain ⟨er, Rl1⟩ := hp
  refine lv_aload_n hx hb dL_law_231 rfl (lv_at hl 2 rfl) ?_
  refine lv_aload_n hx hb dL_law_232 rfl (lv_at hl 0 rfl) ?_
  refine lv_iload_n hx hb dL_law_233 rfl (lv_at hl 3 rfl) ?_
  refine lv_iconst (v := nI 1) hx hb dL_law_234 (by decide +kernel) ?_
  refine pz_iaddN M dL_law_235 ?_
  refine lw_sld M hX hbl hL D1.2.2.2 (by omega) dL_law_236 ?_
  refine lv_aload_n hx hb dL_law_237 rfl (lv_at hl 0 rfl) ?_
  refine lv_iload_n hx hb dL_law_238 rfl (lv_at hl 3 rfl) ?_
  refine lv_iconst (v := nI 2) hx hb dL_law_239 (by decide +kernel) ?_
  refine pz_iaddN M dL_law_240 ?_
  refine lw_sld M hX hbl hL D1.2.2.2 (by omega) dL_law_241 ?_
  refine lw_calli M hA D2 D1 hap1.sy rfl rfl iX0_38 mtX2_swap ⟨Nat.le_of_ble_eq_true rfl, Nat.le_of_ble_eq_true rfl⟩ ⟨rfl, rfl⟩ rfl hl.1 rfl (Nat.le_of_ble_eq_true rfl) dL_law_242 ⟨Nat.le_of_ble_eq_true rfl, Nat.le_of_ble_eq_true rfl⟩ (fun r2 u2 H2 locs2 hp E2 E1 hap2 => ?_)
  obtain ⟨er2, ev⟩ := hp
  rw [← ev] at Rl1
  refine lv_icmp_eq (tgt := 445) hx hb dL_law_245 (by decide) (fun _ => K _ _ _ _ Rl1 E1 E2 hap2.sy _ hl) (fun h => absurd (er.trans er2.symm) h)
set_option maxHeartbeats 4000000 in
theorem lo_release (M : CallFix p m c cL_law 4 s args lw_all RX0) (hX : va_X b L xs s s.heap) (hbl : b < s.heap.size) (hL : L ≤ 257) (hi : i + 4 ≤ L) (K : lw_K p l e s m args below meth c Q b g ad ae i) (Rl : pm_Rl σ μ) (C1 : pz_C (pm_W g ad) g (lw_A s) s σ H locs) (C2 : pz_C (md_W g ae) g (lw_A s) s μ H locs) (hap : lw_D (pm_W g ad σ) (md_W g ae μ)) (hl : lv_has ls 4 [(0, .ref b), (1, .ref (ad 0)), (2, .ref (ae 0)), (3, .int (nI i))]) : W p l e room_1 s m args below meth c H locs 15 504 Q (F0 m 250 ls []) := by
  have hx := M.1
  have hb := M.2.1
  have hA : ∀ q : Nat, s.heap.size ≤ q → lw_A s q := fun _ h => h
  obtain ⟨fs1, h01⟩ := pm_W_0 g ad σ
  refine lv_aload_n hx hb dL_law_250 rfl (lv_at hl 1 rfl) ?_
  refine lv_aload_n hx hb dL_law_251 rfl (lv_at hl 0 rfl) ?_
  refine lv_iload_n hx hb dL_law_252 rfl (lv_at hl 3 rfl) ?_
  refine lv_iconst (v := nI 1) hx hb dL_law_253 (by decide +kernel) ?_
  refine pz_iaddN M dL_law_254 ?_
  refine lw_sld M hX hbl hL C1.2.2.2 (by omega) dL_law_255 ?_
  refine lw_calli M hA C1 C2 hap h01 rfl iX0_39 (mtX1_release Rl) ⟨Nat.le_of_ble_eq_true rfl, Nat.le_of_ble_eq_true rfl⟩ ⟨rfl, rfl⟩ rfl hl.1 rfl (Nat.le_of_ble_eq_true rfl) dL_law_256 ⟨Nat.le_of_ble_eq_true rfl, Nat.le_of_ble_eq_true rfl⟩ (fun r u H1 locs1 hp D1 D2 hap1 => ?_)
  obtain ⟨er, Rl1⟩ := hp
  refine lv_aload_n hx hb dL_law_259 rfl (lv_at hl 2 rfl) ?_
  refine lv_aload_n hx hb dL_law_260 rfl (lv_at hl 0 rfl) ?_
  refine lv_iload_n hx hb dL_law_261 rfl (lv_at hl 3 rfl) ?_
  refine lv_iconst (v := nI 1) hx hb dL_law_262 (by decide +kernel) ?_
  refine pz_iaddN M dL_law_263 ?_
  refine lw_sld M hX hbl hL D1.2.2.2 (by omega) dL_law_264 ?_
  refine lw_calli M hA D2 D1 hap1.sy rfl rfl iX0_43 mtX2_release ⟨Nat.le_of_ble_eq_true rfl, Nat.le_of_ble_eq_true rfl⟩ ⟨rfl, rfl⟩ rfl hl.1 rfl (Nat.le_of_ble_eq_true rfl) dL_law_265 ⟨Nat.le_of_ble_eq_true rfl, Nat.le_of_ble_eq_true rfl⟩ (fun r2 u2 H2 locs2 hp E2 E1 hap2 => ?_)
  obtain ⟨er2, ev⟩ := hp
  rw [← ev] at Rl1
  refine lv_icmp_eq (tgt := 445) hx hb dL_law_268 (by decide) (fun _ => K _ _ _ _ Rl1 E1 E2 hap2.sy _ hl) (fun h => absurd (er.trans er2.symm) h)
set_option maxHeartbeats 4000000 in
theorem lo_scan (M : CallFix p m c cL_law 4 s args lw_all RX0) (hX : va_X b L xs s s.heap) (hbl : b < s.heap.size) (hL : L ≤ 257) (hi : i + 4 ≤ L) (K : lw_K p l e s m args below meth c Q b g ad ae i) (Rl : pm_Rl σ μ) (C1 : pz_C (pm_W g ad) g (lw_A s) s σ H locs) (C2 : pz_C (md_W g ae) g (lw_A s) s μ H locs) (hap : lw_D (pm_W g ad σ) (md_W g ae μ)) (hl : lv_has ls 4 [(0, .ref b), (1, .ref (ad 0)), (2, .ref (ae 0)), (3, .int (nI i))]) : W p l e room_1 s m args below meth c H locs 15 504 Q (F0 m 273 ls []) := by
  have hx := M.1
  have hb := M.2.1
  have hA : ∀ q : Nat, s.heap.size ≤ q → lw_A s q := fun _ h => h
  obtain ⟨fs1, h01⟩ := pm_W_0 g ad σ
  refine lv_aload_n hx hb dL_law_273 rfl (lv_at hl 1 rfl) ?_
  refine lv_aload_n hx hb dL_law_274 rfl (lv_at hl 0 rfl) ?_
  refine lv_iload_n hx hb dL_law_275 rfl (lv_at hl 3 rfl) ?_
  refine lv_iconst (v := nI 1) hx hb dL_law_276 (by decide +kernel) ?_
  refine pz_iaddN M dL_law_277 ?_
  refine lw_sld M hX hbl hL C1.2.2.2 (by omega) dL_law_278 ?_
  refine lw_callv M hA C1 C2 hap h01 rfl iX0_44 (mtX1_scan Rl) ⟨Nat.le_of_ble_eq_true rfl, Nat.le_of_ble_eq_true rfl⟩ ⟨rfl, rfl⟩ rfl hl.1 rfl (Nat.le_of_ble_eq_true rfl) dL_law_279 ⟨Nat.le_of_ble_eq_true rfl, Nat.le_of_ble_eq_true rfl⟩ (fun u H1 locs1 hp D1 D2 hap1 => ?_)
  have Rl1 := hp
  refine lv_aload_n hx hb dL_law_282 rfl (lv_at hl 2 rfl) ?_
  refine lv_aload_n hx hb dL_law_283 rfl (lv_at hl 0 rfl) ?_
  refine lv_iload_n hx hb dL_law_284 rfl (lv_at hl 3 rfl) ?_
  refine lv_iconst (v := nI 1) hx hb dL_law_285 (by decide +kernel) ?_
  refine pz_iaddN M dL_law_286 ?_
  refine lw_sld M hX hbl hL D1.2.2.2 (by omega) dL_law_287 ?_
  refine lw_callv M hA D2 D1 hap1.sy rfl rfl iX0_47 mtX2_scan ⟨Nat.le_of_ble_eq_true rfl, Nat.le_of_ble_eq_true rfl⟩ ⟨rfl, rfl⟩ rfl hl.1 rfl (Nat.le_of_ble_eq_true rfl) dL_law_288 ⟨Nat.le_of_ble_eq_true rfl, Nat.le_of_ble_eq_true rfl⟩ (fun u2 H2 locs2 hp E2 E1 hap2 => ?_)
  have ev := hp
  rw [← ev] at Rl1
  refine lv_goto (tgt := 445) hx hb dL_law_291 (by decide) ?_
  exact K _ _ _ _ Rl1 E1 E2 hap2.sy _ hl
set_option maxHeartbeats 4000000 in
theorem lo_read (M : CallFix p m c cL_law 4 s args lw_all RX0) (hX : va_X b L xs s s.heap) (hbl : b < s.heap.size) (hL : L ≤ 257) (hi : i + 4 ≤ L) (K : lw_K p l e s m args below meth c Q b g ad ae i) (Rl : pm_Rl σ μ) (C1 : pz_C (pm_W g ad) g (lw_A s) s σ H locs) (C2 : pz_C (md_W g ae) g (lw_A s) s μ H locs) (hap : lw_D (pm_W g ad σ) (md_W g ae μ)) (hl : lv_has ls 4 [(0, .ref b), (1, .ref (ad 0)), (2, .ref (ae 0)), (3, .int (nI i))]) : W p l e room_1 s m args below meth c H locs 15 504 Q (F0 m 294 ls []) := by
  have hx := M.1
  have hb := M.2.1
  have hA : ∀ q : Nat, s.heap.size ≤ q → lw_A s q := fun _ h => h
  obtain ⟨fs1, h01⟩ := pm_W_0 g ad σ
  refine lv_aload_n hx hb dL_law_294 rfl (lv_at hl 1 rfl) ?_
  refine lv_aload_n hx hb dL_law_295 rfl (lv_at hl 0 rfl) ?_
  refine lv_iload_n hx hb dL_law_296 rfl (lv_at hl 3 rfl) ?_
  refine lv_iconst (v := nI 1) hx hb dL_law_297 (by decide +kernel) ?_
  refine pz_iaddN M dL_law_298 ?_
  refine lw_sld M hX hbl hL C1.2.2.2 (by omega) dL_law_299 ?_
  refine lv_aload_n hx hb dL_law_300 rfl (lv_at hl 0 rfl) ?_
  refine lv_iload_n hx hb dL_law_301 rfl (lv_at hl 3 rfl) ?_
  refine lv_iconst (v := nI 2) hx hb dL_law_302 (by decide +kernel) ?_
  refine pz_iaddN M dL_law_303 ?_
  refine lw_sld M hX hbl hL C1.2.2.2 (by omega) dL_law_304 ?_
  refine lw_calli M hA C1 C2 hap h01 rfl iX0_48 (mtX1_read Rl) ⟨Nat.le_of_ble_eq_true rfl, Nat.le_of_ble_eq_true rfl⟩ ⟨rfl, rfl⟩ rfl hl.1 rfl (Nat.le_of_ble_eq_true rfl) dL_law_305 ⟨Nat.le_of_ble_eq_true rfl, Nat.le_of_ble_eq_true rfl⟩ (fun r u H1 locs1 hp D1 D2 hap1 => ?_)
  obtain ⟨er, Rl1⟩ := hp
  refine lv_aload_n hx hb dL_law_308 rfl (lv_at hl 2 rfl) ?_
  refine lv_aload_n hx hb dL_law_309 rfl (lv_at hl 0 rfl) ?_
  refine lv_iload_n hx hb dL_law_310 rfl (lv_at hl 3 rfl) ?_
  refine lv_iconst (v := nI 1) hx hb dL_law_311 (by decide +kernel) ?_
  refine pz_iaddN M dL_law_312 ?_
  refine lw_sld M hX hbl hL D1.2.2.2 (by omega) dL_law_313 ?_
  refine lv_aload_n hx hb dL_law_314 rfl (lv_at hl 0 rfl) ?_
  refine lv_iload_n hx hb dL_law_315 rfl (lv_at hl 3 rfl) ?_
  refine lv_iconst (v := nI 2) hx hb dL_law_316 (by decide +kernel) ?_
  refine pz_iaddN M dL_law_317 ?_
  refine lw_sld M hX hbl hL D1.2.2.2 (by omega) dL_law_318 ?_
  refine lw_calli M hA D2 D1 hap1.sy rfl rfl iX0_51 mtX2_read ⟨Nat.le_of_ble_eq_true rfl, Nat.le_of_ble_eq_true rfl⟩ ⟨rfl, rfl⟩ rfl hl.1 rfl (Nat.le_of_ble_eq_true rfl) dL_law_319 ⟨Nat.le_of_ble_eq_true rfl, Nat.le_of_ble_eq_true rfl⟩ (fun r2 u2 H2 locs2 hp E2 E1 hap2 => ?_)
  obtain ⟨er2, ev⟩ := hp
  rw [← ev] at Rl1
  refine lv_icmp_eq (tgt := 445) hx hb dL_law_322 (by decide) (fun _ => K _ _ _ _ Rl1 E1 E2 hap2.sy _ hl) (fun h => absurd (er.trans er2.symm) h)
set_option maxHeartbeats 4000000 in
theorem lo_held (M : CallFix p m c cL_law 4 s args lw_all RX0) (hX : va_X b L xs s s.heap) (hbl : b < s.heap.size) (hL : L ≤ 257) (hi : i + 4 ≤ L) (K : lw_K p l e s m args below meth c Q b g ad ae i) (Rl : pm_Rl σ μ) (C1 : pz_C (pm_W g ad) g (lw_A s) s σ H locs) (C2 : pz_C (md_W g ae) g (lw_A s) s μ H locs) (hap : lw_D (pm_W g ad σ) (md_W g ae μ)) (hl : lv_has ls 4 [(0, .ref b), (1, .ref (ad 0)), (2, .ref (ae 0)), (3, .int (nI i))]) : W p l e room_1 s m args below meth c H locs 15 504 Q (F0 m 327 ls []) := by
  have hx := M.1
  have hb := M.2.1
  have hA : ∀ q : Nat, s.heap.size ≤ q → lw_A s q := fun _ h => h
  obtain ⟨fs1, h01⟩ := pm_W_0 g ad σ
  refine lv_aload_n hx hb dL_law_327 rfl (lv_at hl 1 rfl) ?_
  refine lv_aload_n hx hb dL_law_328 rfl (lv_at hl 0 rfl) ?_
  refine lv_iload_n hx hb dL_law_329 rfl (lv_at hl 3 rfl) ?_
  refine lv_iconst (v := nI 1) hx hb dL_law_330 (by decide +kernel) ?_
  refine pz_iaddN M dL_law_331 ?_
  refine lw_sld M hX hbl hL C1.2.2.2 (by omega) dL_law_332 ?_
  refine lw_calli M hA C1 C2 hap h01 rfl iX0_52 (mtX1_held Rl) ⟨Nat.le_of_ble_eq_true rfl, Nat.le_of_ble_eq_true rfl⟩ ⟨rfl, rfl⟩ rfl hl.1 rfl (Nat.le_of_ble_eq_true rfl) dL_law_333 ⟨Nat.le_of_ble_eq_true rfl, Nat.le_of_ble_eq_true rfl⟩ (fun r u H1 locs1 hp D1 D2 hap1 => ?_)
  obtain ⟨er, eu⟩ := hp
  have Rl1 : pm_Rl u μ := by rw [eu]; exact Rl
  refine lv_aload_n hx hb dL_law_336 rfl (lv_at hl 2 rfl) ?_
  refine lv_aload_n hx hb dL_law_337 rfl (lv_at hl 0 rfl) ?_
  refine lv_iload_n hx hb dL_law_338 rfl (lv_at hl 3 rfl) ?_
  refine lv_iconst (v := nI 1) hx hb dL_law_339 (by decide +kernel) ?_
  refine pz_iaddN M dL_law_340 ?_
  refine lw_sld M hX hbl hL D1.2.2.2 (by omega) dL_law_341 ?_
  refine lw_calli M hA D2 D1 hap1.sy rfl rfl iX0_56 mtX2_held ⟨Nat.le_of_ble_eq_true rfl, Nat.le_of_ble_eq_true rfl⟩ ⟨rfl, rfl⟩ rfl hl.1 rfl (Nat.le_of_ble_eq_true rfl) dL_law_342 ⟨Nat.le_of_ble_eq_true rfl, Nat.le_of_ble_eq_true rfl⟩ (fun r2 u2 H2 locs2 hp E2 E1 hap2 => ?_)
  obtain ⟨er2, ev⟩ := hp
  rw [← ev] at Rl1
  refine lv_icmp_eq (tgt := 445) hx hb dL_law_345 (by decide) (fun _ => K _ _ _ _ Rl1 E1 E2 hap2.sy _ hl) (fun h => absurd (er.trans er2.symm) h)
set_option maxHeartbeats 4000000 in
theorem lo_same (M : CallFix p m c cL_law 4 s args lw_all RX0) (hX : va_X b L xs s s.heap) (hbl : b < s.heap.size) (hL : L ≤ 257) (hi : i + 4 ≤ L) (K : lw_K p l e s m args below meth c Q b g ad ae i) (Rl : pm_Rl σ μ) (C1 : pz_C (pm_W g ad) g (lw_A s) s σ H locs) (C2 : pz_C (md_W g ae) g (lw_A s) s μ H locs) (hap : lw_D (pm_W g ad σ) (md_W g ae μ)) (hl : lv_has ls 4 [(0, .ref b), (1, .ref (ad 0)), (2, .ref (ae 0)), (3, .int (nI i))]) : W p l e room_1 s m args below meth c H locs 15 504 Q (F0 m 350 ls []) := by
  have hx := M.1
  have hb := M.2.1
  have hA : ∀ q : Nat, s.heap.size ≤ q → lw_A s q := fun _ h => h
  obtain ⟨fs1, h01⟩ := pm_W_0 g ad σ
  refine lv_aload_n hx hb dL_law_350 rfl (lv_at hl 1 rfl) ?_
  refine lv_aload_n hx hb dL_law_351 rfl (lv_at hl 0 rfl) ?_
  refine lv_iload_n hx hb dL_law_352 rfl (lv_at hl 3 rfl) ?_
  refine lv_iconst (v := nI 1) hx hb dL_law_353 (by decide +kernel) ?_
  refine pz_iaddN M dL_law_354 ?_
  refine lw_sld M hX hbl hL C1.2.2.2 (by omega) dL_law_355 ?_
  refine lv_aload_n hx hb dL_law_356 rfl (lv_at hl 0 rfl) ?_
  refine lv_iload_n hx hb dL_law_357 rfl (lv_at hl 3 rfl) ?_
  refine lv_iconst (v := nI 2) hx hb dL_law_358 (by decide +kernel) ?_
  refine pz_iaddN M dL_law_359 ?_
  refine lw_sld M hX hbl hL C1.2.2.2 (by omega) dL_law_360 ?_
  refine lw_calli M hA C1 C2 hap h01 rfl iX0_57 (mtX1_same Rl) ⟨Nat.le_of_ble_eq_true rfl, Nat.le_of_ble_eq_true rfl⟩ ⟨rfl, rfl⟩ rfl hl.1 rfl (Nat.le_of_ble_eq_true rfl) dL_law_361 ⟨Nat.le_of_ble_eq_true rfl, Nat.le_of_ble_eq_true rfl⟩ (fun r u H1 locs1 hp D1 D2 hap1 => ?_)
  obtain ⟨er, eu⟩ := hp
  have Rl1 : pm_Rl u μ := by rw [eu]; exact Rl
  refine lv_aload_n hx hb dL_law_364 rfl (lv_at hl 2 rfl) ?_
  refine lv_aload_n hx hb dL_law_365 rfl (lv_at hl 0 rfl) ?_
  refine lv_iload_n hx hb dL_law_366 rfl (lv_at hl 3 rfl) ?_
  refine lv_iconst (v := nI 1) hx hb dL_law_367 (by decide +kernel) ?_
  refine pz_iaddN M dL_law_368 ?_
  refine lw_sld M hX hbl hL D1.2.2.2 (by omega) dL_law_369 ?_
  refine lv_aload_n hx hb dL_law_370 rfl (lv_at hl 0 rfl) ?_
  refine lv_iload_n hx hb dL_law_371 rfl (lv_at hl 3 rfl) ?_
  refine lv_iconst (v := nI 2) hx hb dL_law_372 (by decide +kernel) ?_
  refine pz_iaddN M dL_law_373 ?_
  refine lw_sld M hX hbl hL D1.2.2.2 (by omega) dL_law_374 ?_
  refine lw_calli M hA D2 D1 hap1.sy rfl rfl iX0_61 mtX2_same ⟨Nat.le_of_ble_eq_true rfl, Nat.le_of_ble_eq_true rfl⟩ ⟨rfl, rfl⟩ rfl hl.1 rfl (Nat.le_of_ble_eq_true rfl) dL_law_375 ⟨Nat.le_of_ble_eq_true rfl, Nat.le_of_ble_eq_true rfl⟩ (fun r2 u2 H2 locs2 hp E2 E1 hap2 => ?_)
  obtain ⟨er2, ev⟩ := hp
  rw [← ev] at Rl1
  refine lv_icmp_eq (tgt := 445) hx hb dL_law_378 (by decide) (fun _ => K _ _ _ _ Rl1 E1 E2 hap2.sy _ hl) (fun h => absurd (er.trans er2.symm) h)
set_option maxHeartbeats 4000000 in
theorem lo_contents (M : CallFix p m c cL_law 4 s args lw_all RX0) (hX : va_X b L xs s s.heap) (hbl : b < s.heap.size) (hL : L ≤ 257) (hi : i + 4 ≤ L) (K : lw_K p l e s m args below meth c Q b g ad ae i) (Rl : pm_Rl σ μ) (C1 : pz_C (pm_W g ad) g (lw_A s) s σ H locs) (C2 : pz_C (md_W g ae) g (lw_A s) s μ H locs) (hap : lw_D (pm_W g ad σ) (md_W g ae μ)) (hl : lv_has ls 4 [(0, .ref b), (1, .ref (ad 0)), (2, .ref (ae 0)), (3, .int (nI i))]) : W p l e room_1 s m args below meth c H locs 15 504 Q (F0 m 383 ls []) := by
  have hx := M.1
  have hb := M.2.1
  have hA : ∀ q : Nat, s.heap.size ≤ q → lw_A s q := fun _ h => h
  obtain ⟨fs1, h01⟩ := pm_W_0 g ad σ
  refine lv_aload_n hx hb dL_law_383 rfl (lv_at hl 1 rfl) ?_
  refine lw_calli M hA C1 C2 hap h01 rfl iX0_62 (mtX1_contents Rl) ⟨Nat.le_of_ble_eq_true rfl, Nat.le_of_ble_eq_true rfl⟩ ⟨rfl, rfl⟩ rfl hl.1 rfl (Nat.le_of_ble_eq_true rfl) dL_law_384 ⟨Nat.le_of_ble_eq_true rfl, Nat.le_of_ble_eq_true rfl⟩ (fun r u H1 locs1 hp D1 D2 hap1 => ?_)
  obtain ⟨er, eu⟩ := hp
  have Rl1 : pm_Rl u μ := by rw [eu]; exact Rl
  refine lv_aload_n hx hb dL_law_387 rfl (lv_at hl 2 rfl) ?_
  refine lw_calli M hA D2 D1 hap1.sy rfl rfl iX0_66 mtX2_contents ⟨Nat.le_of_ble_eq_true rfl, Nat.le_of_ble_eq_true rfl⟩ ⟨rfl, rfl⟩ rfl hl.1 rfl (Nat.le_of_ble_eq_true rfl) dL_law_388 ⟨Nat.le_of_ble_eq_true rfl, Nat.le_of_ble_eq_true rfl⟩ (fun r2 u2 H2 locs2 hp E2 E1 hap2 => ?_)
  obtain ⟨er2, ev⟩ := hp
  rw [← ev] at Rl1
  refine lv_icmp_eq (tgt := 445) hx hb dL_law_391 (by decide) (fun _ => K _ _ _ _ Rl1 E1 E2 hap2.sy _ hl) (fun h => absurd (er.trans er2.symm) h)
set_option maxHeartbeats 4000000 in
theorem lo_duplicates (M : CallFix p m c cL_law 4 s args lw_all RX0) (hX : va_X b L xs s s.heap) (hbl : b < s.heap.size) (hL : L ≤ 257) (hi : i + 4 ≤ L) (K : lw_K p l e s m args below meth c Q b g ad ae i) (Rl : pm_Rl σ μ) (C1 : pz_C (pm_W g ad) g (lw_A s) s σ H locs) (C2 : pz_C (md_W g ae) g (lw_A s) s μ H locs) (hap : lw_D (pm_W g ad σ) (md_W g ae μ)) (hl : lv_has ls 4 [(0, .ref b), (1, .ref (ad 0)), (2, .ref (ae 0)), (3, .int (nI i))]) : W p l e room_1 s m args below meth c H locs 15 504 Q (F0 m 396 ls []) := by
  have hx := M.1
  have hb := M.2.1
  have hA : ∀ q : Nat, s.heap.size ≤ q → lw_A s q := fun _ h => h
  obtain ⟨fs1, h01⟩ := pm_W_0 g ad σ
  refine lv_aload_n hx hb dL_law_396 rfl (lv_at hl 1 rfl) ?_
  refine lw_calli M hA C1 C2 hap h01 rfl iX0_67 (mtX1_duplicates Rl) ⟨Nat.le_of_ble_eq_true rfl, Nat.le_of_ble_eq_true rfl⟩ ⟨rfl, rfl⟩ rfl hl.1 rfl (Nat.le_of_ble_eq_true rfl) dL_law_397 ⟨Nat.le_of_ble_eq_true rfl, Nat.le_of_ble_eq_true rfl⟩ (fun r u H1 locs1 hp D1 D2 hap1 => ?_)
  obtain ⟨er, eu⟩ := hp
  have Rl1 : pm_Rl u μ := by rw [eu]; exact Rl
  refine lv_aload_n hx hb dL_law_400 rfl (lv_at hl 2 rfl) ?_
  refine lw_calli M hA D2 D1 hap1.sy rfl rfl iX0_70 mtX2_duplicates ⟨Nat.le_of_ble_eq_true rfl, Nat.le_of_ble_eq_true rfl⟩ ⟨rfl, rfl⟩ rfl hl.1 rfl (Nat.le_of_ble_eq_true rfl) dL_law_401 ⟨Nat.le_of_ble_eq_true rfl, Nat.le_of_ble_eq_true rfl⟩ (fun r2 u2 H2 locs2 hp E2 E1 hap2 => ?_)
  obtain ⟨er2, ev⟩ := hp
  rw [← ev] at Rl1
  refine lv_icmp_eq (tgt := 445) hx hb dL_law_404 (by decide) (fun _ => K _ _ _ _ Rl1 E1 E2 hap2.sy _ hl) (fun h => absurd (er.trans er2.symm) h)
set_option maxHeartbeats 4000000 in
theorem lo_sum (M : CallFix p m c cL_law 4 s args lw_all RX0) (hX : va_X b L xs s s.heap) (hbl : b < s.heap.size) (hL : L ≤ 257) (hi : i + 4 ≤ L) (K : lw_K p l e s m args below meth c Q b g ad ae i) (Rl : pm_Rl σ μ) (C1 : pz_C (pm_W g ad) g (lw_A s) s σ H locs) (C2 : pz_C (md_W g ae) g (lw_A s) s μ H locs) (hap : lw_D (pm_W g ad σ) (md_W g ae μ)) (hl : lv_has ls 4 [(0, .ref b), (1, .ref (ad 0)), (2, .ref (ae 0)), (3, .int (nI i))]) : W p l e room_1 s m args below meth c H locs 15 504 Q (F0 m 409 ls []) := by
  have hx := M.1
  have hb := M.2.1
  have hA : ∀ q : Nat, s.heap.size ≤ q → lw_A s q := fun _ h => h
  obtain ⟨fs1, h01⟩ := pm_W_0 g ad σ
  refine lv_aload_n hx hb dL_law_409 rfl (lv_at hl 1 rfl) ?_
  refine lv_aload_n hx hb dL_law_410 rfl (lv_at hl 0 rfl) ?_
  refine lv_iload_n hx hb dL_law_411 rfl (lv_at hl 3 rfl) ?_
  refine lv_iconst (v := nI 1) hx hb dL_law_412 (by decide +kernel) ?_
  refine pz_iaddN M dL_law_413 ?_
  refine lw_sld M hX hbl hL C1.2.2.2 (by omega) dL_law_414 ?_
  refine lw_calli M hA C1 C2 hap h01 rfl iX0_71 (mtX1_sum Rl) ⟨Nat.le_of_ble_eq_true rfl, Nat.le_of_ble_eq_true rfl⟩ ⟨rfl, rfl⟩ rfl hl.1 rfl (Nat.le_of_ble_eq_true rfl) dL_law_415 ⟨Nat.le_of_ble_eq_true rfl, Nat.le_of_ble_eq_true rfl⟩ (fun r u H1 locs1 hp D1 D2 hap1 => ?_)
  obtain ⟨er, eu⟩ := hp
  have Rl1 : pm_Rl u μ := by rw [eu]; exact Rl
  refine lv_aload_n hx hb dL_law_418 rfl (lv_at hl 2 rfl) ?_
  refine lv_aload_n hx hb dL_law_419 rfl (lv_at hl 0 rfl) ?_
  refine lv_iload_n hx hb dL_law_420 rfl (lv_at hl 3 rfl) ?_
  refine lv_iconst (v := nI 1) hx hb dL_law_421 (by decide +kernel) ?_
  refine pz_iaddN M dL_law_422 ?_
  refine lw_sld M hX hbl hL D1.2.2.2 (by omega) dL_law_423 ?_
  refine lw_calli M hA D2 D1 hap1.sy rfl rfl iX0_74 mtX2_sum ⟨Nat.le_of_ble_eq_true rfl, Nat.le_of_ble_eq_true rfl⟩ ⟨rfl, rfl⟩ rfl hl.1 rfl (Nat.le_of_ble_eq_true rfl) dL_law_424 ⟨Nat.le_of_ble_eq_true rfl, Nat.le_of_ble_eq_true rfl⟩ (fun r2 u2 H2 locs2 hp E2 E1 hap2 => ?_)
  obtain ⟨er2, ev⟩ := hp
  rw [← ev] at Rl1
  refine lv_icmp_eq (tgt := 445) hx hb dL_law_427 (by decide) (fun _ => K _ _ _ _ Rl1 E1 E2 hap2.sy _ hl) (fun h => absurd (er.trans er2.symm) h)
set_option maxHeartbeats 4000000 in
theorem lo_plain (M : CallFix p m c cL_law 4 s args lw_all RX0) (hX : va_X b L xs s s.heap) (hbl : b < s.heap.size) (hL : L ≤ 257) (hi : i + 4 ≤ L) (K : lw_K p l e s m args below meth c Q b g ad ae i) (Rl : pm_Rl σ μ) (C1 : pz_C (pm_W g ad) g (lw_A s) s σ H locs) (C2 : pz_C (md_W g ae) g (lw_A s) s μ H locs) (hap : lw_D (pm_W g ad σ) (md_W g ae μ)) (hl : lv_has ls 4 [(0, .ref b), (1, .ref (ad 0)), (2, .ref (ae 0)), (3, .int (nI i))]) : W p l e room_1 s m args below meth c H locs 15 504 Q (F0 m 432 ls []) := by
  have hx := M.1
  have hb := M.2.1
  have hA : ∀ q : Nat, s.heap.size ≤ q → lw_A s q := fun _ h => h
  obtain ⟨fs1, h01⟩ := pm_W_0 g ad σ
  refine lv_aload_n hx hb dL_law_432 rfl (lv_at hl 1 rfl) ?_
  refine lw_calli M hA C1 C2 hap h01 rfl iX0_75 (mtX1_plain Rl) ⟨Nat.le_of_ble_eq_true rfl, Nat.le_of_ble_eq_true rfl⟩ ⟨rfl, rfl⟩ rfl hl.1 rfl (Nat.le_of_ble_eq_true rfl) dL_law_433 ⟨Nat.le_of_ble_eq_true rfl, Nat.le_of_ble_eq_true rfl⟩ (fun r u H1 locs1 hp D1 D2 hap1 => ?_)
  obtain ⟨er, eu⟩ := hp
  have Rl1 : pm_Rl u μ := by rw [eu]; exact Rl
  refine lv_aload_n hx hb dL_law_436 rfl (lv_at hl 2 rfl) ?_
  refine lw_calli M hA D2 D1 hap1.sy rfl rfl iX0_78 mtX2_plain ⟨Nat.le_of_ble_eq_true rfl, Nat.le_of_ble_eq_true rfl⟩ ⟨rfl, rfl⟩ rfl hl.1 rfl (Nat.le_of_ble_eq_true rfl) dL_law_437 ⟨Nat.le_of_ble_eq_true rfl, Nat.le_of_ble_eq_true rfl⟩ (fun r2 u2 H2 locs2 hp E2 E1 hap2 => ?_)
  obtain ⟨er2, ev⟩ := hp
  rw [← ev] at Rl1
  refine lv_icmp_eq (tgt := 445) hx hb dL_law_440 (by decide) (fun _ => K _ _ _ _ Rl1 E1 E2 hap2.sy _ hl) (fun h => absurd (er.trans er2.symm) h)
end LWO
end
section
/-! the two constructors -/
set_option maxRecDepth 100000
theorem pz_cA {G : va_G} {cl : List vw_C} {tys : List (ClassId × FieldType)} {s : State} {ty : FieldType} (hK : va_K G cl tys s) (i j : Nat) {c1 c2 : ClassId} (h1 : tys[i]? = some (c1, ty)) (h2 : tys[j]? = some (c2, ty)) (hty : ty = .int ∨ ty = .boolean) : c2 = c1 := by
  have a := (hK.2 i _ h1).2
  have b := (hK.2 j _ h2).2
  rcases hty with rfl | rfl
  · exact Option.some.inj ((show s.vm.findClass _ = some c2 from b).symm.trans (show s.vm.findClass _ = some c1 from a))
  · exact Option.some.inj ((show s.vm.findClass _ = some c2 from b).symm.trans (show s.vm.findClass _ = some c1 from a))
/-- what a constructor leaves: the object's cells at some places -/
def pz_Bc {S : Type} (h0 : Nat) (Wd : pz_G → (Nat → Nat) → S → va_W) (G : va_G) (A : Nat → Prop) (u : S) (t : State) : Prop :=
  ∃ (cI cZ : ClassId) (ad : Nat → Nat), ad 0 = h0 ∧ va_P G pz_cl (Wd (G, cI, cZ) ad u) t.heap ∧ va_K G pz_cl (pz_ty (G, cI, cZ)) t ∧ va_D A (Wd (G, cI, cZ) ad u)
def pz_m0 : md_S := (fun _ => 0, fun _ => false)
theorem Rl_0 {fr : Nat} {fo wh : Nat → Nat} {ru : Nat → Bool} {rl : Nat → Nat} (h4 : 4 ≤ fr) (h16 : fr ≤ 16) (h : ∀ p, p < 24 → fo p = 2 ∧ wh p = p ∧ ru p = true ∧ rl p = 4) : pm_Rl (fr, 0, 0, fo, wh, fun _ => false, fun _ => 0, fun _ => 0, ru, rl, fun _ => 0, fun _ => 0, fun _ => false, fun _ => 0) pz_m0 := by
  refine ⟨⟨⟨h4, h16, show 0 < 24 by decide, show 0 < 24 by decide⟩, fun p hp => ?_, fun f hf => ?_, fun r hr => ?_, ⟨fun r hr _ => ⟨r, hr, (h r hr).1, (h r hr).2.1⟩, fun p hp _ => ?_, fun p q hp hq _ _ e => ?_⟩, ⟨fun r hr e => ?_, fun p hp e => ?_, fun p q hp hq e _ _ => ?_⟩⟩, fun q hq => ⟨?_, fun w hw => ?_⟩⟩
  · show fo p ≤ 3 ∧ wh p < 24 ∧ (fo p = 1 → wh p < fr)
    have a := h p hp
    omega
  · show 0 = pm_cn fo wh f 24
    rcases Nat.eq_zero_or_pos (pm_cn fo wh f 24) with e | e
    · exact e.symm
    · obtain ⟨p, hp, h1, -⟩ := cn_ex 24 (Nat.ne_of_gt e)
      have a := h p hp
      omega
  · show rl r ≤ 4
    have a := h r hr
    omega
  · show ru (wh p) = true
    rw [(h p hp).2.1]
    exact (h p hp).2.2.1
  · have e : wh p = wh q := e
    have a := h p hp
    have b := h q hq
    omega
  · cases (show false = true from e)
  · have e : fo p = 3 := e
    have a := h p hp
    omega
  · have e : fo p = 3 := e
    have a := h p hp
    omega
  · show fo q = 0 ↔ false = true
    rw [(h q hq).1]
    exact ⟨fun e => absurd e (by decide), fun e => by cases e⟩
  · show pm_word fo wh rl (fun _ => 0) (fun _ => 0) (fun _ => 0) (fun _ => 0) q w = 0
    unfold pm_word
    rw [(h q hq).1, if_neg (by decide), if_pos rfl]
    split <;> rfl
set_option maxHeartbeats 4000000 in
set_option maxRecDepth 100000 in
theorem mtX2_init {l : Launch} {G : va_G} {h0 : Nat} {x0 : Int32} (sz : Nat) : Met l yX2_init (ws_ yX2_init cX2_init 2 none) ({ frames := 1, cells := 2, slots := 120, locals := 12 }) (va_Pc [.ref h0, .int x0] (fun U => U.heap.size = sz ∧ va_P G pz_cl [(h0, .inr (1, [.null, .null]))] U.heap ∧ va_K G pz_cl [] U ∧ va_D (fun _ => True) [(h0, .inr (1, [.null, .null]))])) (va_Qv (fun u => u = pz_m0) (pz_Bc h0 md_W G (va_A [(h0, .inr (1, [.null, .null]))] sz)) (va_A [(h0, .inr (1, [.null, .null]))] sz)) 2 120 (va_A [(h0, .inr (1, [.null, .null]))] sz) := by
  refine Met.ofW (cc := cX2_init) (maxL := 2) (ret := none) (by decide) rfl ?_
  intro p e s m args below meth c s₁ B hml hv
  obtain ⟨rfl, hsz, hP, hK, hD0⟩ := hv
  have hx := B.exec
  have hb := B.bytes
  have hr := B.returns
  have hts := atoms_spec (ws := ws_ yX2_init cX2_init 2 none) B.pre
  have hts : ∀ w ∈ lw_all, w.before _ s = true := fun w h => hts w (List.mem_cons_of_mem _ h)
  have hown : s.vm.findClass RX2 = some m.cls := findClass_of_methodNamed B.named
  have hlocks := B.notSynchronized
  have hin : meth.name = "<init>" := (name_of_methodNamed B.named B.method).1
  have M : CallFix p m c cX2_init 2 s _ lw_all RX2 := ⟨hx, hb, hml, hown, hts⟩
  subst hsz
  have hD := hD0.self (sz := s.heap.size)
  generalize hAe : va_A [(h0, .inr (1, [.null, .null]))] s.heap.size = A at hD ⊢
  have hA : ∀ q : Nat, s.heap.size ≤ q → A q := fun q h => by rw [← hAe]; exact Or.inr h
  have hS : va_S A s.heap s.heap [] := va_S.rf
  have hP : va_P G pz_cl [(h0, .inr (1, [.null, .null]))] s.heap := hP
  have hl := lv_entry ([.ref h0, .int x0]) (n := 2) (Nat.le_of_ble_eq_true rfl)
  rw [lg_entry_eq]
  generalize (lg_sl ([.ref h0, .int x0]) ++ List.replicate (2 - (lg_sl ([.ref h0, .int x0])).length) Slot.unset).toArray = ls at hl ⊢
  have hl : lv_has ls 2 [(0, .ref h0), (1, .int x0)] := hl
  refine lv_aload_n hx hb dX2_init_0 rfl (lv_at hl 0 rfl) ?_
  refine W.objInit hx hb hown (hts _ q200) (hts _ q26) (hts _ q27) rfl (by rw [hml]; exact hl.1) rfl dX2_init_1 (Nat.le_of_ble_eq_true rfl) (Nat.le_of_ble_eq_true rfl) ?_
  refine W.eq (g2 := F0 m 4 ls []) rfl ?_
  refine lv_aload_n hx hb dX2_init_4 rfl (lv_at hl 0 rfl) ?_
  refine lv_bipush (v := 96) hx hb dX2_init_5 (by decide +kernel) ?_
  refine va_newa (atype := .int) (ty := .int) (N' := 96) (a0 := (96, .inl (fun _ => 0))) hx hb (hts _ q71) rfl hK hP hD hS hA (fun _ => rfl) (by decide +kernel) (by decide +kernel) (by decide +kernel) (Nat.le_of_ble_eq_true rfl) (Nat.le_of_ble_eq_true rfl) dX2_init_7 (fun q0_ c0_ H hK hP hD hS => ?_)
  have hP : va_P G pz_cl [(h0, .inr (1, [.null, .null])), (q0_, .inl (c0_, (96, .inl (fun _ => 0))))] H := hP
  have hD : va_D A [(h0, .inr (1, [.null, .null])), (q0_, .inl (c0_, (96, .inl (fun _ => 0))))] := hD
  have hK : va_K G pz_cl [(c0_, .int)] s := hK
  refine W.widen (k := 1) (n := 96) (Nat.le_of_ble_eq_true rfl) (Nat.le_of_ble_eq_true rfl) ?_
  refine va_putF (D := G) (ci := 1) (v := .ref q0_) (ty := .array .int) (C := RX2) (T := TX2) (N := 2) hx hb hts in_X2 tyX2 tyX2_ok nmX2 hown hK hP hD hS 0 rfl rfl 0 (by decide) (hts _ q201) (fun _ h9 => h9) rfl hin rfl (by decide +kernel) rfl rfl (Nat.le_of_ble_eq_true rfl) dX2_init_9 (fun H locs hP hD hS => ?_)
  have hP : va_P G pz_cl [(h0, .inr (1, [.ref q0_, .null])), (q0_, .inl (c0_, (96, .inl (fun _ => 0))))] H := hP
  have hD : va_D A [(h0, .inr (1, [.ref q0_, .null])), (q0_, .inl (c0_, (96, .inl (fun _ => 0))))] := hD
  refine lv_aload_n hx hb dX2_init_12 rfl (lv_at hl 0 rfl) ?_
  refine lv_bipush (v := 24) hx hb dX2_init_13 (by decide +kernel) ?_
  refine va_newa (atype := .boolean) (ty := .boolean) (N' := 24) (a0 := (24, .inl (pz_bF (fun _ => false)))) hx hb (hts _ q72) rfl hK hP hD hS hA (fun _ => rfl) (by decide +kernel) (by decide +kernel) (by decide +kernel) (Nat.le_of_ble_eq_true rfl) (Nat.le_of_ble_eq_true rfl) dX2_init_15 (fun q1_ c1_ H hK hP hD hS => ?_)
  have hP : va_P G pz_cl [(h0, .inr (1, [.ref q0_, .null])), (q0_, .inl (c0_, (96, .inl (fun _ => 0)))), (q1_, .inl (c1_, (24, .inl (pz_bF (fun _ => false)))))] H := hP
  have hD : va_D A [(h0, .inr (1, [.ref q0_, .null])), (q0_, .inl (c0_, (96, .inl (fun _ => 0)))), (q1_, .inl (c1_, (24, .inl (pz_bF (fun _ => false)))))] := hD
  have hK : va_K G pz_cl [(c0_, .int), (c1_, .boolean)] s := hK
  refine W.widen (k := 2) (n := 120) (Nat.le_of_ble_eq_true rfl) (Nat.le_of_ble_eq_true rfl) ?_
  refine va_putF (D := G) (ci := 1) (v := .ref q1_) (ty := .array .boolean) (C := RX2) (T := TX2) (N := 2) hx hb hts in_X2 tyX2 tyX2_ok nmX2 hown hK hP hD hS 0 rfl rfl 1 (by decide) (hts _ q202) (fun _ h9 => h9) rfl hin rfl (by decide +kernel) rfl rfl (Nat.le_of_ble_eq_true rfl) dX2_init_17 (fun H locs hP hD hS => ?_)
  have hP : va_P G pz_cl [(h0, .inr (1, [.ref q0_, .ref q1_])), (q0_, .inl (c0_, (96, .inl (fun _ => 0)))), (q1_, .inl (c1_, (24, .inl (pz_bF (fun _ => false)))))] H := hP
  have hD : va_D A [(h0, .inr (1, [.ref q0_, .ref q1_])), (q0_, .inl (c0_, (96, .inl (fun _ => 0)))), (q1_, .inl (c1_, (24, .inl (pz_bF (fun _ => false)))))] := hD
  refine W.vret hx hb hr (fun t ht hW => ⟨⟨pz_m0, rfl, rfl, c0_, c1_, fun k => match k with | 0 => h0 | 1 => q0_ | _ => q1_, rfl, ?_, va_K.moved hW.alike hK, hD⟩, hS.F ht⟩) hS.2.2 dX2_init_20
  rw [ht]
  exact hP
set_option maxHeartbeats 4000000 in
set_option maxRecDepth 100000 in
theorem mtX1_init {l : Launch} {G : va_G} {h0 : Nat} {x0 : Int32} (sz : Nat) : Met l yX1_init (ws_ yX1_init cX1_init 4 none) ({ frames := 1, cells := 11, slots := 368, locals := 12 }) (va_Pc [.ref h0, .int x0] (fun U => U.heap.size = sz ∧ va_P G pz_cl [(h0, .inr (0, [.int 0, .null, .null, .null, .int 0, .int 0, .null, .null, .null, .null, .null, .null, .null, .null]))] U.heap ∧ va_K G pz_cl [] U ∧ va_D (fun _ => True) [(h0, .inr (0, [.int 0, .null, .null, .null, .int 0, .int 0, .null, .null, .null, .null, .null, .null, .null, .null]))])) (va_Qv (fun u => pm_Rl u pz_m0) (pz_Bc h0 pm_W G (va_A [(h0, .inr (0, [.int 0, .null, .null, .null, .int 0, .int 0, .null, .null, .null, .null, .null, .null, .null, .null]))] sz)) (va_A [(h0, .inr (0, [.int 0, .null, .null, .null, .int 0, .int 0, .null, .null, .null, .null, .null, .null, .null, .null]))] sz)) 11 368 (va_A [(h0, .inr (0, [.int 0, .null, .null, .null, .int 0, .int 0, .null, .null, .null, .null, .null, .null, .null, .null]))] sz) := by
  refine Met.ofW (cc := cX1_init) (maxL := 4) (ret := none) (by decide) rfl ?_
  intro p e s m args below meth c s₁ B hml hv
  obtain ⟨rfl, hsz, hP, hK, hD0⟩ := hv
  have hx := B.exec
  have hb := B.bytes
  have hr := B.returns
  have hts := atoms_spec (ws := ws_ yX1_init cX1_init 4 none) B.pre
  have hts : ∀ w ∈ lw_all, w.before _ s = true := fun w h => hts w (List.mem_cons_of_mem _ h)
  have hown : s.vm.findClass RX1 = some m.cls := findClass_of_methodNamed B.named
  have hlocks := B.notSynchronized
  have hin : meth.name = "<init>" := (name_of_methodNamed B.named B.method).1
  have M : CallFix p m c cX1_init 4 s _ lw_all RX1 := ⟨hx, hb, hml, hown, hts⟩
  subst hsz
  have hD := hD0.self (sz := s.heap.size)
  generalize hAe : va_A [(h0, .inr (0, [.int 0, .null, .null, .null, .int 0, .int 0, .null, .null, .null, .null, .null, .null, .null, .null]))] s.heap.size = A at hD ⊢
  have hA : ∀ q : Nat, s.heap.size ≤ q → A q := fun q h => by rw [← hAe]; exact Or.inr h
  have hS : va_S A s.heap s.heap [] := va_S.rf
  have hP : va_P G pz_cl [(h0, .inr (0, [.int 0, .null, .null, .null, .int 0, .int 0, .null, .null, .null, .null, .null, .null, .null, .null]))] s.heap := hP
  have hl := lv_entry ([.ref h0, .int x0]) (n := 4) (Nat.le_of_ble_eq_true rfl)
  rw [lg_entry_eq]
  generalize (lg_sl ([.ref h0, .int x0]) ++ List.replicate (4 - (lg_sl ([.ref h0, .int x0])).length) Slot.unset).toArray = ls at hl ⊢
  have hl : lv_has ls 4 [(0, .ref h0), (1, .int x0)] := hl
  refine lv_aload_n hx hb dX1_init_0 rfl (lv_at hl 0 rfl) ?_
  refine W.objInit hx hb hown (hts _ q25) (hts _ q26) (hts _ q27) rfl (by rw [hml]; exact hl.1) rfl dX1_init_1 (Nat.le_of_ble_eq_true rfl) (Nat.le_of_ble_eq_true rfl) ?_
  refine W.eq (g2 := F0 m 4 ls []) rfl ?_
  refine lv_aload_n hx hb dX1_init_4 rfl (lv_at hl 0 rfl) ?_
  refine lv_bipush (v := 24) hx hb dX1_init_5 (by decide +kernel) ?_
  refine va_newa (atype := .int) (ty := .int) (N' := 24) (a0 := (24, .inl (pz_nF (fun _ => 0)))) hx hb (hts _ q71) rfl hK hP hD hS hA (fun _ => rfl) (by decide +kernel) (by decide +kernel) (by decide +kernel) (Nat.le_of_ble_eq_true rfl) (Nat.le_of_ble_eq_true rfl) dX1_init_7 (fun q1_ c1_ H hK hP hD hS => ?_)
  have hP : va_P G pz_cl [(h0, .inr (0, [.int 0, .null, .null, .null, .int 0, .int 0, .null, .null, .null, .null, .null, .null, .null, .null])), (q1_, .inl (c1_, (24, .inl (pz_nF (fun _ => 0)))))] H := hP
  have hD : va_D A [(h0, .inr (0, [.int 0, .null, .null, .null, .int 0, .int 0, .null, .null, .null, .null, .null, .null, .null, .null])), (q1_, .inl (c1_, (24, .inl (pz_nF (fun _ => 0)))))] := hD
  have hK : va_K G pz_cl [(c1_, .int)] s := hK
  refine W.widen (k := 1) (n := 24) (Nat.le_of_ble_eq_true rfl) (Nat.le_of_ble_eq_true rfl) ?_
  refine va_putF (D := G) (ci := 0) (v := .ref q1_) (ty := .array .int) (C := RX1) (T := TX1) (N := 14) hx hb hts in_X1 tyX1 tyX1_ok nmX1 hown hK hP hD hS 0 rfl rfl 1 (by decide) (hts _ q29) (fun _ h9 => h9) rfl hin rfl (by decide +kernel) rfl rfl (Nat.le_of_ble_eq_true rfl) dX1_init_9 (fun H locs hP hD hS => ?_)
  have hP : va_P G pz_cl [(h0, .inr (0, [.int 0, .ref q1_, .null, .null, .int 0, .int 0, .null, .null, .null, .null, .null, .null, .null, .null])), (q1_, .inl (c1_, (24, .inl (pz_nF (fun _ => 0)))))] H := hP
  have hD : va_D A [(h0, .inr (0, [.int 0, .ref q1_, .null, .null, .int 0, .int 0, .null, .null, .null, .null, .null, .null, .null, .null])), (q1_, .inl (c1_, (24, .inl (pz_nF (fun _ => 0)))))] := hD
  refine lv_aload_n hx hb dX1_init_12 rfl (lv_at hl 0 rfl) ?_
  refine lv_bipush (v := 24) hx hb dX1_init_13 (by decide +kernel) ?_
  refine va_newa (atype := .int) (ty := .int) (N' := 24) (a0 := (24, .inl (pz_nF (fun _ => 0)))) hx hb (hts _ q71) rfl hK hP hD hS hA (fun _ => rfl) (by decide +kernel) (by decide +kernel) (by decide +kernel) (Nat.le_of_ble_eq_true rfl) (Nat.le_of_ble_eq_true rfl) dX1_init_15 (fun q2_ c2_ H hK hP hD hS => ?_)
  have hP : va_P G pz_cl [(h0, .inr (0, [.int 0, .ref q1_, .null, .null, .int 0, .int 0, .null, .null, .null, .null, .null, .null, .null, .null])), (q1_, .inl (c1_, (24, .inl (pz_nF (fun _ => 0))))), (q2_, .inl (c2_, (24, .inl (pz_nF (fun _ => 0)))))] H := hP
  have hD : va_D A [(h0, .inr (0, [.int 0, .ref q1_, .null, .null, .int 0, .int 0, .null, .null, .null, .null, .null, .null, .null, .null])), (q1_, .inl (c1_, (24, .inl (pz_nF (fun _ => 0))))), (q2_, .inl (c2_, (24, .inl (pz_nF (fun _ => 0)))))] := hD
  have hK : va_K G pz_cl [(c1_, .int), (c2_, .int)] s := hK
  refine W.widen (k := 2) (n := 48) (Nat.le_of_ble_eq_true rfl) (Nat.le_of_ble_eq_true rfl) ?_
  refine va_putF (D := G) (ci := 0) (v := .ref q2_) (ty := .array .int) (C := RX1) (T := TX1) (N := 14) hx hb hts in_X1 tyX1 tyX1_ok nmX1 hown hK hP hD hS 0 rfl rfl 2 (by decide) (hts _ q30) (fun _ h9 => h9) rfl hin rfl (by decide +kernel) rfl rfl (Nat.le_of_ble_eq_true rfl) dX1_init_17 (fun H locs hP hD hS => ?_)
  have hP : va_P G pz_cl [(h0, .inr (0, [.int 0, .ref q1_, .ref q2_, .null, .int 0, .int 0, .null, .null, .null, .null, .null, .null, .null, .null])), (q1_, .inl (c1_, (24, .inl (pz_nF (fun _ => 0))))), (q2_, .inl (c2_, (24, .inl (pz_nF (fun _ => 0)))))] H := hP
  have hD : va_D A [(h0, .inr (0, [.int 0, .ref q1_, .ref q2_, .null, .int 0, .int 0, .null, .null, .null, .null, .null, .null, .null, .null])), (q1_, .inl (c1_, (24, .inl (pz_nF (fun _ => 0))))), (q2_, .inl (c2_, (24, .inl (pz_nF (fun _ => 0)))))] := hD
  refine lv_aload_n hx hb dX1_init_20 rfl (lv_at hl 0 rfl) ?_
  refine lv_bipush (v := 24) hx hb dX1_init_21 (by decide +kernel) ?_
  refine va_newa (atype := .boolean) (ty := .boolean) (N' := 24) (a0 := (24, .inl (pz_bF (fun _ => false)))) hx hb (hts _ q72) rfl hK hP hD hS hA (fun _ => rfl) (by decide +kernel) (by decide +kernel) (by decide +kernel) (Nat.le_of_ble_eq_true rfl) (Nat.le_of_ble_eq_true rfl) dX1_init_23 (fun q3_ c3_ H hK hP hD hS => ?_)
  have hP : va_P G pz_cl [(h0, .inr (0, [.int 0, .ref q1_, .ref q2_, .null, .int 0, .int 0, .null, .null, .null, .null, .null, .null, .null, .null])), (q1_, .inl (c1_, (24, .inl (pz_nF (fun _ => 0))))), (q2_, .inl (c2_, (24, .inl (pz_nF (fun _ => 0))))), (q3_, .inl (c3_, (24, .inl (pz_bF (fun _ => false)))))] H := hP
  have hD : va_D A [(h0, .inr (0, [.int 0, .ref q1_, .ref q2_, .null, .int 0, .int 0, .null, .null, .null, .null, .null, .null, .null, .null])), (q1_, .inl (c1_, (24, .inl (pz_nF (fun _ => 0))))), (q2_, .inl (c2_, (24, .inl (pz_nF (fun _ => 0))))), (q3_, .inl (c3_, (24, .inl (pz_bF (fun _ => false)))))] := hD
  have hK : va_K G pz_cl [(c1_, .int), (c2_, .int), (c3_, .boolean)] s := hK
  refine W.widen (k := 3) (n := 72) (Nat.le_of_ble_eq_true rfl) (Nat.le_of_ble_eq_true rfl) ?_
  refine va_putF (D := G) (ci := 0) (v := .ref q3_) (ty := .array .boolean) (C := RX1) (T := TX1) (N := 14) hx hb hts in_X1 tyX1 tyX1_ok nmX1 hown hK hP hD hS 0 rfl rfl 3 (by decide) (hts _ q31) (fun _ h9 => h9) rfl hin rfl (by decide +kernel) rfl rfl (Nat.le_of_ble_eq_true rfl) dX1_init_25 (fun H locs hP hD hS => ?_)
  have hP : va_P G pz_cl [(h0, .inr (0, [.int 0, .ref q1_, .ref q2_, .ref q3_, .int 0, .int 0, .null, .null, .null, .null, .null, .null, .null, .null])), (q1_, .inl (c1_, (24, .inl (pz_nF (fun _ => 0))))), (q2_, .inl (c2_, (24, .inl (pz_nF (fun _ => 0))))), (q3_, .inl (c3_, (24, .inl (pz_bF (fun _ => false)))))] H := hP
  have hD : va_D A [(h0, .inr (0, [.int 0, .ref q1_, .ref q2_, .ref q3_, .int 0, .int 0, .null, .null, .null, .null, .null, .null, .null, .null])), (q1_, .inl (c1_, (24, .inl (pz_nF (fun _ => 0))))), (q2_, .inl (c2_, (24, .inl (pz_nF (fun _ => 0))))), (q3_, .inl (c3_, (24, .inl (pz_bF (fun _ => false)))))] := hD
  refine lv_aload_n hx hb dX1_init_28 rfl (lv_at hl 0 rfl) ?_
  refine lv_bipush (v := 16) hx hb dX1_init_29 (by decide +kernel) ?_
  refine va_newa (atype := .int) (ty := .int) (N' := 16) (a0 := (16, .inl (pz_nF (fun _ => 0)))) hx hb (hts _ q71) rfl hK hP hD hS hA (fun _ => rfl) (by decide +kernel) (by decide +kernel) (by decide +kernel) (Nat.le_of_ble_eq_true rfl) (Nat.le_of_ble_eq_true rfl) dX1_init_31 (fun q6_ c6_ H hK hP hD hS => ?_)
  have hP : va_P G pz_cl [(h0, .inr (0, [.int 0, .ref q1_, .ref q2_, .ref q3_, .int 0, .int 0, .null, .null, .null, .null, .null, .null, .null, .null])), (q1_, .inl (c1_, (24, .inl (pz_nF (fun _ => 0))))), (q2_, .inl (c2_, (24, .inl (pz_nF (fun _ => 0))))), (q3_, .inl (c3_, (24, .inl (pz_bF (fun _ => false))))), (q6_, .inl (c6_, (16, .inl (pz_nF (fun _ => 0)))))] H := hP
  have hD : va_D A [(h0, .inr (0, [.int 0, .ref q1_, .ref q2_, .ref q3_, .int 0, .int 0, .null, .null, .null, .null, .null, .null, .null, .null])), (q1_, .inl (c1_, (24, .inl (pz_nF (fun _ => 0))))), (q2_, .inl (c2_, (24, .inl (pz_nF (fun _ => 0))))), (q3_, .inl (c3_, (24, .inl (pz_bF (fun _ => false))))), (q6_, .inl (c6_, (16, .inl (pz_nF (fun _ => 0)))))] := hD
  have hK : va_K G pz_cl [(c1_, .int), (c2_, .int), (c3_, .boolean), (c6_, .int)] s := hK
  refine W.widen (k := 4) (n := 88) (Nat.le_of_ble_eq_true rfl) (Nat.le_of_ble_eq_true rfl) ?_
  refine va_putF (D := G) (ci := 0) (v := .ref q6_) (ty := .array .int) (C := RX1) (T := TX1) (N := 14) hx hb hts in_X1 tyX1 tyX1_ok nmX1 hown hK hP hD hS 0 rfl rfl 6 (by decide) (hts _ q34) (fun _ h9 => h9) rfl hin rfl (by decide +kernel) rfl rfl (Nat.le_of_ble_eq_true rfl) dX1_init_33 (fun H locs hP hD hS => ?_)
  have hP : va_P G pz_cl [(h0, .inr (0, [.int 0, .ref q1_, .ref q2_, .ref q3_, .int 0, .int 0, .ref q6_, .null, .null, .null, .null, .null, .null, .null])), (q1_, .inl (c1_, (24, .inl (pz_nF (fun _ => 0))))), (q2_, .inl (c2_, (24, .inl (pz_nF (fun _ => 0))))), (q3_, .inl (c3_, (24, .inl (pz_bF (fun _ => false))))), (q6_, .inl (c6_, (16, .inl (pz_nF (fun _ => 0)))))] H := hP
  have hD : va_D A [(h0, .inr (0, [.int 0, .ref q1_, .ref q2_, .ref q3_, .int 0, .int 0, .ref q6_, .null, .null, .null, .null, .null, .null, .null])), (q1_, .inl (c1_, (24, .inl (pz_nF (fun _ => 0))))), (q2_, .inl (c2_, (24, .inl (pz_nF (fun _ => 0))))), (q3_, .inl (c3_, (24, .inl (pz_bF (fun _ => false))))), (q6_, .inl (c6_, (16, .inl (pz_nF (fun _ => 0)))))] := hD
  refine lv_aload_n hx hb dX1_init_36 rfl (lv_at hl 0 rfl) ?_
  refine lv_bipush (v := 64) hx hb dX1_init_37 (by decide +kernel) ?_
  refine va_newa (atype := .int) (ty := .int) (N' := 64) (a0 := (64, .inl (fun _ => 0))) hx hb (hts _ q71) rfl hK hP hD hS hA (fun _ => rfl) (by decide +kernel) (by decide +kernel) (by decide +kernel) (Nat.le_of_ble_eq_true rfl) (Nat.le_of_ble_eq_true rfl) dX1_init_39 (fun q7_ c7_ H hK hP hD hS => ?_)
  have hP : va_P G pz_cl [(h0, .inr (0, [.int 0, .ref q1_, .ref q2_, .ref q3_, .int 0, .int 0, .ref q6_, .null, .null, .null, .null, .null, .null, .null])), (q1_, .inl (c1_, (24, .inl (pz_nF (fun _ => 0))))), (q2_, .inl (c2_, (24, .inl (pz_nF (fun _ => 0))))), (q3_, .inl (c3_, (24, .inl (pz_bF (fun _ => false))))), (q6_, .inl (c6_, (16, .inl (pz_nF (fun _ => 0))))), (q7_, .inl (c7_, (64, .inl (fun _ => 0))))] H := hP
  have hD : va_D A [(h0, .inr (0, [.int 0, .ref q1_, .ref q2_, .ref q3_, .int 0, .int 0, .ref q6_, .null, .null, .null, .null, .null, .null, .null])), (q1_, .inl (c1_, (24, .inl (pz_nF (fun _ => 0))))), (q2_, .inl (c2_, (24, .inl (pz_nF (fun _ => 0))))), (q3_, .inl (c3_, (24, .inl (pz_bF (fun _ => false))))), (q6_, .inl (c6_, (16, .inl (pz_nF (fun _ => 0))))), (q7_, .inl (c7_, (64, .inl (fun _ => 0))))] := hD
  have hK : va_K G pz_cl [(c1_, .int), (c2_, .int), (c3_, .boolean), (c6_, .int), (c7_, .int)] s := hK
  refine W.widen (k := 5) (n := 152) (Nat.le_of_ble_eq_true rfl) (Nat.le_of_ble_eq_true rfl) ?_
  refine va_putF (D := G) (ci := 0) (v := .ref q7_) (ty := .array .int) (C := RX1) (T := TX1) (N := 14) hx hb hts in_X1 tyX1 tyX1_ok nmX1 hown hK hP hD hS 0 rfl rfl 7 (by decide) (hts _ q35) (fun _ h9 => h9) rfl hin rfl (by decide +kernel) rfl rfl (Nat.le_of_ble_eq_true rfl) dX1_init_41 (fun H locs hP hD hS => ?_)
  have hP : va_P G pz_cl [(h0, .inr (0, [.int 0, .ref q1_, .ref q2_, .ref q3_, .int 0, .int 0, .ref q6_, .ref q7_, .null, .null, .null, .null, .null, .null])), (q1_, .inl (c1_, (24, .inl (pz_nF (fun _ => 0))))), (q2_, .inl (c2_, (24, .inl (pz_nF (fun _ => 0))))), (q3_, .inl (c3_, (24, .inl (pz_bF (fun _ => false))))), (q6_, .inl (c6_, (16, .inl (pz_nF (fun _ => 0))))), (q7_, .inl (c7_, (64, .inl (fun _ => 0))))] H := hP
  have hD : va_D A [(h0, .inr (0, [.int 0, .ref q1_, .ref q2_, .ref q3_, .int 0, .int 0, .ref q6_, .ref q7_, .null, .null, .null, .null, .null, .null])), (q1_, .inl (c1_, (24, .inl (pz_nF (fun _ => 0))))), (q2_, .inl (c2_, (24, .inl (pz_nF (fun _ => 0))))), (q3_, .inl (c3_, (24, .inl (pz_bF (fun _ => false))))), (q6_, .inl (c6_, (16, .inl (pz_nF (fun _ => 0))))), (q7_, .inl (c7_, (64, .inl (fun _ => 0))))] := hD
  refine lv_aload_n hx hb dX1_init_44 rfl (lv_at hl 0 rfl) ?_
  refine lv_bipush (v := 24) hx hb dX1_init_45 (by decide +kernel) ?_
  refine va_newa (atype := .boolean) (ty := .boolean) (N' := 24) (a0 := (24, .inl (pz_bF (fun _ => false)))) hx hb (hts _ q72) rfl hK hP hD hS hA (fun _ => rfl) (by decide +kernel) (by decide +kernel) (by decide +kernel) (Nat.le_of_ble_eq_true rfl) (Nat.le_of_ble_eq_true rfl) dX1_init_47 (fun q8_ c8_ H hK hP hD hS => ?_)
  have hP : va_P G pz_cl [(h0, .inr (0, [.int 0, .ref q1_, .ref q2_, .ref q3_, .int 0, .int 0, .ref q6_, .ref q7_, .null, .null, .null, .null, .null, .null])), (q1_, .inl (c1_, (24, .inl (pz_nF (fun _ => 0))))), (q2_, .inl (c2_, (24, .inl (pz_nF (fun _ => 0))))), (q3_, .inl (c3_, (24, .inl (pz_bF (fun _ => false))))), (q6_, .inl (c6_, (16, .inl (pz_nF (fun _ => 0))))), (q7_, .inl (c7_, (64, .inl (fun _ => 0)))), (q8_, .inl (c8_, (24, .inl (pz_bF (fun _ => false)))))] H := hP
  have hD : va_D A [(h0, .inr (0, [.int 0, .ref q1_, .ref q2_, .ref q3_, .int 0, .int 0, .ref q6_, .ref q7_, .null, .null, .null, .null, .null, .null])), (q1_, .inl (c1_, (24, .inl (pz_nF (fun _ => 0))))), (q2_, .inl (c2_, (24, .inl (pz_nF (fun _ => 0))))), (q3_, .inl (c3_, (24, .inl (pz_bF (fun _ => false))))), (q6_, .inl (c6_, (16, .inl (pz_nF (fun _ => 0))))), (q7_, .inl (c7_, (64, .inl (fun _ => 0)))), (q8_, .inl (c8_, (24, .inl (pz_bF (fun _ => false)))))] := hD
  have hK : va_K G pz_cl [(c1_, .int), (c2_, .int), (c3_, .boolean), (c6_, .int), (c7_, .int), (c8_, .boolean)] s := hK
  refine W.widen (k := 6) (n := 176) (Nat.le_of_ble_eq_true rfl) (Nat.le_of_ble_eq_true rfl) ?_
  refine va_putF (D := G) (ci := 0) (v := .ref q8_) (ty := .array .boolean) (C := RX1) (T := TX1) (N := 14) hx hb hts in_X1 tyX1 tyX1_ok nmX1 hown hK hP hD hS 0 rfl rfl 8 (by decide) (hts _ q36) (fun _ h9 => h9) rfl hin rfl (by decide +kernel) rfl rfl (Nat.le_of_ble_eq_true rfl) dX1_init_49 (fun H locs hP hD hS => ?_)
  have hP : va_P G pz_cl [(h0, .inr (0, [.int 0, .ref q1_, .ref q2_, .ref q3_, .int 0, .int 0, .ref q6_, .ref q7_, .ref q8_, .null, .null, .null, .null, .null])), (q1_, .inl (c1_, (24, .inl (pz_nF (fun _ => 0))))), (q2_, .inl (c2_, (24, .inl (pz_nF (fun _ => 0))))), (q3_, .inl (c3_, (24, .inl (pz_bF (fun _ => false))))), (q6_, .inl (c6_, (16, .inl (pz_nF (fun _ => 0))))), (q7_, .inl (c7_, (64, .inl (fun _ => 0)))), (q8_, .inl (c8_, (24, .inl (pz_bF (fun _ => false)))))] H := hP
  have hD : va_D A [(h0, .inr (0, [.int 0, .ref q1_, .ref q2_, .ref q3_, .int 0, .int 0, .ref q6_, .ref q7_, .ref q8_, .null, .null, .null, .null, .null])), (q1_, .inl (c1_, (24, .inl (pz_nF (fun _ => 0))))), (q2_, .inl (c2_, (24, .inl (pz_nF (fun _ => 0))))), (q3_, .inl (c3_, (24, .inl (pz_bF (fun _ => false))))), (q6_, .inl (c6_, (16, .inl (pz_nF (fun _ => 0))))), (q7_, .inl (c7_, (64, .inl (fun _ => 0)))), (q8_, .inl (c8_, (24, .inl (pz_bF (fun _ => false)))))] := hD
  refine lv_aload_n hx hb dX1_init_52 rfl (lv_at hl 0 rfl) ?_
  refine lv_bipush (v := 24) hx hb dX1_init_53 (by decide +kernel) ?_
  refine va_newa (atype := .int) (ty := .int) (N' := 24) (a0 := (24, .inl (pz_nF (fun _ => 0)))) hx hb (hts _ q71) rfl hK hP hD hS hA (fun _ => rfl) (by decide +kernel) (by decide +kernel) (by decide +kernel) (Nat.le_of_ble_eq_true rfl) (Nat.le_of_ble_eq_true rfl) dX1_init_55 (fun q9_ c9_ H hK hP hD hS => ?_)
  have hP : va_P G pz_cl [(h0, .inr (0, [.int 0, .ref q1_, .ref q2_, .ref q3_, .int 0, .int 0, .ref q6_, .ref q7_, .ref q8_, .null, .null, .null, .null, .null])), (q1_, .inl (c1_, (24, .inl (pz_nF (fun _ => 0))))), (q2_, .inl (c2_, (24, .inl (pz_nF (fun _ => 0))))), (q3_, .inl (c3_, (24, .inl (pz_bF (fun _ => false))))), (q6_, .inl (c6_, (16, .inl (pz_nF (fun _ => 0))))), (q7_, .inl (c7_, (64, .inl (fun _ => 0)))), (q8_, .inl (c8_, (24, .inl (pz_bF (fun _ => false))))), (q9_, .inl (c9_, (24, .inl (pz_nF (fun _ => 0)))))] H := hP
  have hD : va_D A [(h0, .inr (0, [.int 0, .ref q1_, .ref q2_, .ref q3_, .int 0, .int 0, .ref q6_, .ref q7_, .ref q8_, .null, .null, .null, .null, .null])), (q1_, .inl (c1_, (24, .inl (pz_nF (fun _ => 0))))), (q2_, .inl (c2_, (24, .inl (pz_nF (fun _ => 0))))), (q3_, .inl (c3_, (24, .inl (pz_bF (fun _ => false))))), (q6_, .inl (c6_, (16, .inl (pz_nF (fun _ => 0))))), (q7_, .inl (c7_, (64, .inl (fun _ => 0)))), (q8_, .inl (c8_, (24, .inl (pz_bF (fun _ => false))))), (q9_, .inl (c9_, (24, .inl (pz_nF (fun _ => 0)))))] := hD
  have hK : va_K G pz_cl [(c1_, .int), (c2_, .int), (c3_, .boolean), (c6_, .int), (c7_, .int), (c8_, .boolean), (c9_, .int)] s := hK
  refine W.widen (k := 7) (n := 200) (Nat.le_of_ble_eq_true rfl) (Nat.le_of_ble_eq_true rfl) ?_
  refine va_putF (D := G) (ci := 0) (v := .ref q9_) (ty := .array .int) (C := RX1) (T := TX1) (N := 14) hx hb hts in_X1 tyX1 tyX1_ok nmX1 hown hK hP hD hS 0 rfl rfl 9 (by decide) (hts _ q37) (fun _ h9 => h9) rfl hin rfl (by decide +kernel) rfl rfl (Nat.le_of_ble_eq_true rfl) dX1_init_57 (fun H locs hP hD hS => ?_)
  have hP : va_P G pz_cl [(h0, .inr (0, [.int 0, .ref q1_, .ref q2_, .ref q3_, .int 0, .int 0, .ref q6_, .ref q7_, .ref q8_, .ref q9_, .null, .null, .null, .null])), (q1_, .inl (c1_, (24, .inl (pz_nF (fun _ => 0))))), (q2_, .inl (c2_, (24, .inl (pz_nF (fun _ => 0))))), (q3_, .inl (c3_, (24, .inl (pz_bF (fun _ => false))))), (q6_, .inl (c6_, (16, .inl (pz_nF (fun _ => 0))))), (q7_, .inl (c7_, (64, .inl (fun _ => 0)))), (q8_, .inl (c8_, (24, .inl (pz_bF (fun _ => false))))), (q9_, .inl (c9_, (24, .inl (pz_nF (fun _ => 0)))))] H := hP
  have hD : va_D A [(h0, .inr (0, [.int 0, .ref q1_, .ref q2_, .ref q3_, .int 0, .int 0, .ref q6_, .ref q7_, .ref q8_, .ref q9_, .null, .null, .null, .null])), (q1_, .inl (c1_, (24, .inl (pz_nF (fun _ => 0))))), (q2_, .inl (c2_, (24, .inl (pz_nF (fun _ => 0))))), (q3_, .inl (c3_, (24, .inl (pz_bF (fun _ => false))))), (q6_, .inl (c6_, (16, .inl (pz_nF (fun _ => 0))))), (q7_, .inl (c7_, (64, .inl (fun _ => 0)))), (q8_, .inl (c8_, (24, .inl (pz_bF (fun _ => false))))), (q9_, .inl (c9_, (24, .inl (pz_nF (fun _ => 0)))))] := hD
  refine lv_aload_n hx hb dX1_init_60 rfl (lv_at hl 0 rfl) ?_
  refine lv_bipush (v := 24) hx hb dX1_init_61 (by decide +kernel) ?_
  refine va_newa (atype := .int) (ty := .int) (N' := 24) (a0 := (24, .inl (fun _ => 0))) hx hb (hts _ q71) rfl hK hP hD hS hA (fun _ => rfl) (by decide +kernel) (by decide +kernel) (by decide +kernel) (Nat.le_of_ble_eq_true rfl) (Nat.le_of_ble_eq_true rfl) dX1_init_63 (fun q10_ c10_ H hK hP hD hS => ?_)
  have hP : va_P G pz_cl [(h0, .inr (0, [.int 0, .ref q1_, .ref q2_, .ref q3_, .int 0, .int 0, .ref q6_, .ref q7_, .ref q8_, .ref q9_, .null, .null, .null, .null])), (q1_, .inl (c1_, (24, .inl (pz_nF (fun _ => 0))))), (q2_, .inl (c2_, (24, .inl (pz_nF (fun _ => 0))))), (q3_, .inl (c3_, (24, .inl (pz_bF (fun _ => false))))), (q6_, .inl (c6_, (16, .inl (pz_nF (fun _ => 0))))), (q7_, .inl (c7_, (64, .inl (fun _ => 0)))), (q8_, .inl (c8_, (24, .inl (pz_bF (fun _ => false))))), (q9_, .inl (c9_, (24, .inl (pz_nF (fun _ => 0))))), (q10_, .inl (c10_, (24, .inl (fun _ => 0))))] H := hP
  have hD : va_D A [(h0, .inr (0, [.int 0, .ref q1_, .ref q2_, .ref q3_, .int 0, .int 0, .ref q6_, .ref q7_, .ref q8_, .ref q9_, .null, .null, .null, .null])), (q1_, .inl (c1_, (24, .inl (pz_nF (fun _ => 0))))), (q2_, .inl (c2_, (24, .inl (pz_nF (fun _ => 0))))), (q3_, .inl (c3_, (24, .inl (pz_bF (fun _ => false))))), (q6_, .inl (c6_, (16, .inl (pz_nF (fun _ => 0))))), (q7_, .inl (c7_, (64, .inl (fun _ => 0)))), (q8_, .inl (c8_, (24, .inl (pz_bF (fun _ => false))))), (q9_, .inl (c9_, (24, .inl (pz_nF (fun _ => 0))))), (q10_, .inl (c10_, (24, .inl (fun _ => 0))))] := hD
  have hK : va_K G pz_cl [(c1_, .int), (c2_, .int), (c3_, .boolean), (c6_, .int), (c7_, .int), (c8_, .boolean), (c9_, .int), (c10_, .int)] s := hK
  refine W.widen (k := 8) (n := 224) (Nat.le_of_ble_eq_true rfl) (Nat.le_of_ble_eq_true rfl) ?_
  refine va_putF (D := G) (ci := 0) (v := .ref q10_) (ty := .array .int) (C := RX1) (T := TX1) (N := 14) hx hb hts in_X1 tyX1 tyX1_ok nmX1 hown hK hP hD hS 0 rfl rfl 10 (by decide) (hts _ q38) (fun _ h9 => h9) rfl hin rfl (by decide +kernel) rfl rfl (Nat.le_of_ble_eq_true rfl) dX1_init_65 (fun H locs hP hD hS => ?_)
  have hP : va_P G pz_cl [(h0, .inr (0, [.int 0, .ref q1_, .ref q2_, .ref q3_, .int 0, .int 0, .ref q6_, .ref q7_, .ref q8_, .ref q9_, .ref q10_, .null, .null, .null])), (q1_, .inl (c1_, (24, .inl (pz_nF (fun _ => 0))))), (q2_, .inl (c2_, (24, .inl (pz_nF (fun _ => 0))))), (q3_, .inl (c3_, (24, .inl (pz_bF (fun _ => false))))), (q6_, .inl (c6_, (16, .inl (pz_nF (fun _ => 0))))), (q7_, .inl (c7_, (64, .inl (fun _ => 0)))), (q8_, .inl (c8_, (24, .inl (pz_bF (fun _ => false))))), (q9_, .inl (c9_, (24, .inl (pz_nF (fun _ => 0))))), (q10_, .inl (c10_, (24, .inl (fun _ => 0))))] H := hP
  have hD : va_D A [(h0, .inr (0, [.int 0, .ref q1_, .ref q2_, .ref q3_, .int 0, .int 0, .ref q6_, .ref q7_, .ref q8_, .ref q9_, .ref q10_, .null, .null, .null])), (q1_, .inl (c1_, (24, .inl (pz_nF (fun _ => 0))))), (q2_, .inl (c2_, (24, .inl (pz_nF (fun _ => 0))))), (q3_, .inl (c3_, (24, .inl (pz_bF (fun _ => false))))), (q6_, .inl (c6_, (16, .inl (pz_nF (fun _ => 0))))), (q7_, .inl (c7_, (64, .inl (fun _ => 0)))), (q8_, .inl (c8_, (24, .inl (pz_bF (fun _ => false))))), (q9_, .inl (c9_, (24, .inl (pz_nF (fun _ => 0))))), (q10_, .inl (c10_, (24, .inl (fun _ => 0))))] := hD
  refine lv_aload_n hx hb dX1_init_68 rfl (lv_at hl 0 rfl) ?_
  refine lv_bipush (v := 24) hx hb dX1_init_69 (by decide +kernel) ?_
  refine va_newa (atype := .int) (ty := .int) (N' := 24) (a0 := (24, .inl (fun _ => 0))) hx hb (hts _ q71) rfl hK hP hD hS hA (fun _ => rfl) (by decide +kernel) (by decide +kernel) (by decide +kernel) (Nat.le_of_ble_eq_true rfl) (Nat.le_of_ble_eq_true rfl) dX1_init_71 (fun q11_ c11_ H hK hP hD hS => ?_)
  have hP : va_P G pz_cl [(h0, .inr (0, [.int 0, .ref q1_, .ref q2_, .ref q3_, .int 0, .int 0, .ref q6_, .ref q7_, .ref q8_, .ref q9_, .ref q10_, .null, .null, .null])), (q1_, .inl (c1_, (24, .inl (pz_nF (fun _ => 0))))), (q2_, .inl (c2_, (24, .inl (pz_nF (fun _ => 0))))), (q3_, .inl (c3_, (24, .inl (pz_bF (fun _ => false))))), (q6_, .inl (c6_, (16, .inl (pz_nF (fun _ => 0))))), (q7_, .inl (c7_, (64, .inl (fun _ => 0)))), (q8_, .inl (c8_, (24, .inl (pz_bF (fun _ => false))))), (q9_, .inl (c9_, (24, .inl (pz_nF (fun _ => 0))))), (q10_, .inl (c10_, (24, .inl (fun _ => 0)))), (q11_, .inl (c11_, (24, .inl (fun _ => 0))))] H := hP
  have hD : va_D A [(h0, .inr (0, [.int 0, .ref q1_, .ref q2_, .ref q3_, .int 0, .int 0, .ref q6_, .ref q7_, .ref q8_, .ref q9_, .ref q10_, .null, .null, .null])), (q1_, .inl (c1_, (24, .inl (pz_nF (fun _ => 0))))), (q2_, .inl (c2_, (24, .inl (pz_nF (fun _ => 0))))), (q3_, .inl (c3_, (24, .inl (pz_bF (fun _ => false))))), (q6_, .inl (c6_, (16, .inl (pz_nF (fun _ => 0))))), (q7_, .inl (c7_, (64, .inl (fun _ => 0)))), (q8_, .inl (c8_, (24, .inl (pz_bF (fun _ => false))))), (q9_, .inl (c9_, (24, .inl (pz_nF (fun _ => 0))))), (q10_, .inl (c10_, (24, .inl (fun _ => 0)))), (q11_, .inl (c11_, (24, .inl (fun _ => 0))))] := hD
  have hK : va_K G pz_cl [(c1_, .int), (c2_, .int), (c3_, .boolean), (c6_, .int), (c7_, .int), (c8_, .boolean), (c9_, .int), (c10_, .int), (c11_, .int)] s := hK
  refine W.widen (k := 9) (n := 248) (Nat.le_of_ble_eq_true rfl) (Nat.le_of_ble_eq_true rfl) ?_
  refine va_putF (D := G) (ci := 0) (v := .ref q11_) (ty := .array .int) (C := RX1) (T := TX1) (N := 14) hx hb hts in_X1 tyX1 tyX1_ok nmX1 hown hK hP hD hS 0 rfl rfl 11 (by decide) (hts _ q39) (fun _ h9 => h9) rfl hin rfl (by decide +kernel) rfl rfl (Nat.le_of_ble_eq_true rfl) dX1_init_73 (fun H locs hP hD hS => ?_)
  have hP : va_P G pz_cl [(h0, .inr (0, [.int 0, .ref q1_, .ref q2_, .ref q3_, .int 0, .int 0, .ref q6_, .ref q7_, .ref q8_, .ref q9_, .ref q10_, .ref q11_, .null, .null])), (q1_, .inl (c1_, (24, .inl (pz_nF (fun _ => 0))))), (q2_, .inl (c2_, (24, .inl (pz_nF (fun _ => 0))))), (q3_, .inl (c3_, (24, .inl (pz_bF (fun _ => false))))), (q6_, .inl (c6_, (16, .inl (pz_nF (fun _ => 0))))), (q7_, .inl (c7_, (64, .inl (fun _ => 0)))), (q8_, .inl (c8_, (24, .inl (pz_bF (fun _ => false))))), (q9_, .inl (c9_, (24, .inl (pz_nF (fun _ => 0))))), (q10_, .inl (c10_, (24, .inl (fun _ => 0)))), (q11_, .inl (c11_, (24, .inl (fun _ => 0))))] H := hP
  have hD : va_D A [(h0, .inr (0, [.int 0, .ref q1_, .ref q2_, .ref q3_, .int 0, .int 0, .ref q6_, .ref q7_, .ref q8_, .ref q9_, .ref q10_, .ref q11_, .null, .null])), (q1_, .inl (c1_, (24, .inl (pz_nF (fun _ => 0))))), (q2_, .inl (c2_, (24, .inl (pz_nF (fun _ => 0))))), (q3_, .inl (c3_, (24, .inl (pz_bF (fun _ => false))))), (q6_, .inl (c6_, (16, .inl (pz_nF (fun _ => 0))))), (q7_, .inl (c7_, (64, .inl (fun _ => 0)))), (q8_, .inl (c8_, (24, .inl (pz_bF (fun _ => false))))), (q9_, .inl (c9_, (24, .inl (pz_nF (fun _ => 0))))), (q10_, .inl (c10_, (24, .inl (fun _ => 0)))), (q11_, .inl (c11_, (24, .inl (fun _ => 0))))] := hD
  refine lv_aload_n hx hb dX1_init_76 rfl (lv_at hl 0 rfl) ?_
  refine lv_bipush (v := 24) hx hb dX1_init_77 (by decide +kernel) ?_
  refine va_newa (atype := .boolean) (ty := .boolean) (N' := 24) (a0 := (24, .inl (pz_bF (fun _ => false)))) hx hb (hts _ q72) rfl hK hP hD hS hA (fun _ => rfl) (by decide +kernel) (by decide +kernel) (by decide +kernel) (Nat.le_of_ble_eq_true rfl) (Nat.le_of_ble_eq_true rfl) dX1_init_79 (fun q12_ c12_ H hK hP hD hS => ?_)
  have hP : va_P G pz_cl [(h0, .inr (0, [.int 0, .ref q1_, .ref q2_, .ref q3_, .int 0, .int 0, .ref q6_, .ref q7_, .ref q8_, .ref q9_, .ref q10_, .ref q11_, .null, .null])), (q1_, .inl (c1_, (24, .inl (pz_nF (fun _ => 0))))), (q2_, .inl (c2_, (24, .inl (pz_nF (fun _ => 0))))), (q3_, .inl (c3_, (24, .inl (pz_bF (fun _ => false))))), (q6_, .inl (c6_, (16, .inl (pz_nF (fun _ => 0))))), (q7_, .inl (c7_, (64, .inl (fun _ => 0)))), (q8_, .inl (c8_, (24, .inl (pz_bF (fun _ => false))))), (q9_, .inl (c9_, (24, .inl (pz_nF (fun _ => 0))))), (q10_, .inl (c10_, (24, .inl (fun _ => 0)))), (q11_, .inl (c11_, (24, .inl (fun _ => 0)))), (q12_, .inl (c12_, (24, .inl (pz_bF (fun _ => false)))))] H := hP
  have hD : va_D A [(h0, .inr (0, [.int 0, .ref q1_, .ref q2_, .ref q3_, .int 0, .int 0, .ref q6_, .ref q7_, .ref q8_, .ref q9_, .ref q10_, .ref q11_, .null, .null])), (q1_, .inl (c1_, (24, .inl (pz_nF (fun _ => 0))))), (q2_, .inl (c2_, (24, .inl (pz_nF (fun _ => 0))))), (q3_, .inl (c3_, (24, .inl (pz_bF (fun _ => false))))), (q6_, .inl (c6_, (16, .inl (pz_nF (fun _ => 0))))), (q7_, .inl (c7_, (64, .inl (fun _ => 0)))), (q8_, .inl (c8_, (24, .inl (pz_bF (fun _ => false))))), (q9_, .inl (c9_, (24, .inl (pz_nF (fun _ => 0))))), (q10_, .inl (c10_, (24, .inl (fun _ => 0)))), (q11_, .inl (c11_, (24, .inl (fun _ => 0)))), (q12_, .inl (c12_, (24, .inl (pz_bF (fun _ => false)))))] := hD
  have hK : va_K G pz_cl [(c1_, .int), (c2_, .int), (c3_, .boolean), (c6_, .int), (c7_, .int), (c8_, .boolean), (c9_, .int), (c10_, .int), (c11_, .int), (c12_, .boolean)] s := hK
  refine W.widen (k := 10) (n := 272) (Nat.le_of_ble_eq_true rfl) (Nat.le_of_ble_eq_true rfl) ?_
  refine va_putF (D := G) (ci := 0) (v := .ref q12_) (ty := .array .boolean) (C := RX1) (T := TX1) (N := 14) hx hb hts in_X1 tyX1 tyX1_ok nmX1 hown hK hP hD hS 0 rfl rfl 12 (by decide) (hts _ q40) (fun _ h9 => h9) rfl hin rfl (by decide +kernel) rfl rfl (Nat.le_of_ble_eq_true rfl) dX1_init_81 (fun H locs hP hD hS => ?_)
  have hP : va_P G pz_cl [(h0, .inr (0, [.int 0, .ref q1_, .ref q2_, .ref q3_, .int 0, .int 0, .ref q6_, .ref q7_, .ref q8_, .ref q9_, .ref q10_, .ref q11_, .ref q12_, .null])), (q1_, .inl (c1_, (24, .inl (pz_nF (fun _ => 0))))), (q2_, .inl (c2_, (24, .inl (pz_nF (fun _ => 0))))), (q3_, .inl (c3_, (24, .inl (pz_bF (fun _ => false))))), (q6_, .inl (c6_, (16, .inl (pz_nF (fun _ => 0))))), (q7_, .inl (c7_, (64, .inl (fun _ => 0)))), (q8_, .inl (c8_, (24, .inl (pz_bF (fun _ => false))))), (q9_, .inl (c9_, (24, .inl (pz_nF (fun _ => 0))))), (q10_, .inl (c10_, (24, .inl (fun _ => 0)))), (q11_, .inl (c11_, (24, .inl (fun _ => 0)))), (q12_, .inl (c12_, (24, .inl (pz_bF (fun _ => false)))))] H := hP
  have hD : va_D A [(h0, .inr (0, [.int 0, .ref q1_, .ref q2_, .ref q3_, .int 0, .int 0, .ref q6_, .ref q7_, .ref q8_, .ref q9_, .ref q10_, .ref q11_, .ref q12_, .null])), (q1_, .inl (c1_, (24, .inl (pz_nF (fun _ => 0))))), (q2_, .inl (c2_, (24, .inl (pz_nF (fun _ => 0))))), (q3_, .inl (c3_, (24, .inl (pz_bF (fun _ => false))))), (q6_, .inl (c6_, (16, .inl (pz_nF (fun _ => 0))))), (q7_, .inl (c7_, (64, .inl (fun _ => 0)))), (q8_, .inl (c8_, (24, .inl (pz_bF (fun _ => false))))), (q9_, .inl (c9_, (24, .inl (pz_nF (fun _ => 0))))), (q10_, .inl (c10_, (24, .inl (fun _ => 0)))), (q11_, .inl (c11_, (24, .inl (fun _ => 0)))), (q12_, .inl (c12_, (24, .inl (pz_bF (fun _ => false)))))] := hD
  refine lv_aload_n hx hb dX1_init_84 rfl (lv_at hl 0 rfl) ?_
  refine lv_bipush (v := 96) hx hb dX1_init_85 (by decide +kernel) ?_
  refine va_newa (atype := .int) (ty := .int) (N' := 96) (a0 := (96, .inl (fun _ => 0))) hx hb (hts _ q71) rfl hK hP hD hS hA (fun _ => rfl) (by decide +kernel) (by decide +kernel) (by decide +kernel) (Nat.le_of_ble_eq_true rfl) (Nat.le_of_ble_eq_true rfl) dX1_init_87 (fun q13_ c13_ H hK hP hD hS => ?_)
  have hP : va_P G pz_cl [(h0, .inr (0, [.int 0, .ref q1_, .ref q2_, .ref q3_, .int 0, .int 0, .ref q6_, .ref q7_, .ref q8_, .ref q9_, .ref q10_, .ref q11_, .ref q12_, .null])), (q1_, .inl (c1_, (24, .inl (pz_nF (fun _ => 0))))), (q2_, .inl (c2_, (24, .inl (pz_nF (fun _ => 0))))), (q3_, .inl (c3_, (24, .inl (pz_bF (fun _ => false))))), (q6_, .inl (c6_, (16, .inl (pz_nF (fun _ => 0))))), (q7_, .inl (c7_, (64, .inl (fun _ => 0)))), (q8_, .inl (c8_, (24, .inl (pz_bF (fun _ => false))))), (q9_, .inl (c9_, (24, .inl (pz_nF (fun _ => 0))))), (q10_, .inl (c10_, (24, .inl (fun _ => 0)))), (q11_, .inl (c11_, (24, .inl (fun _ => 0)))), (q12_, .inl (c12_, (24, .inl (pz_bF (fun _ => false))))), (q13_, .inl (c13_, (96, .inl (fun _ => 0))))] H := hP
  have hD : va_D A [(h0, .inr (0, [.int 0, .ref q1_, .ref q2_, .ref q3_, .int 0, .int 0, .ref q6_, .ref q7_, .ref q8_, .ref q9_, .ref q10_, .ref q11_, .ref q12_, .null])), (q1_, .inl (c1_, (24, .inl (pz_nF (fun _ => 0))))), (q2_, .inl (c2_, (24, .inl (pz_nF (fun _ => 0))))), (q3_, .inl (c3_, (24, .inl (pz_bF (fun _ => false))))), (q6_, .inl (c6_, (16, .inl (pz_nF (fun _ => 0))))), (q7_, .inl (c7_, (64, .inl (fun _ => 0)))), (q8_, .inl (c8_, (24, .inl (pz_bF (fun _ => false))))), (q9_, .inl (c9_, (24, .inl (pz_nF (fun _ => 0))))), (q10_, .inl (c10_, (24, .inl (fun _ => 0)))), (q11_, .inl (c11_, (24, .inl (fun _ => 0)))), (q12_, .inl (c12_, (24, .inl (pz_bF (fun _ => false))))), (q13_, .inl (c13_, (96, .inl (fun _ => 0))))] := hD
  have hK : va_K G pz_cl [(c1_, .int), (c2_, .int), (c3_, .boolean), (c6_, .int), (c7_, .int), (c8_, .boolean), (c9_, .int), (c10_, .int), (c11_, .int), (c12_, .boolean), (c13_, .int)] s := hK
  refine W.widen (k := 11) (n := 368) (Nat.le_of_ble_eq_true rfl) (Nat.le_of_ble_eq_true rfl) ?_
  refine va_putF (D := G) (ci := 0) (v := .ref q13_) (ty := .array .int) (C := RX1) (T := TX1) (N := 14) hx hb hts in_X1 tyX1 tyX1_ok nmX1 hown hK hP hD hS 0 rfl rfl 13 (by decide) (hts _ q41) (fun _ h9 => h9) rfl hin rfl (by decide +kernel) rfl rfl (Nat.le_of_ble_eq_true rfl) dX1_init_89 (fun H locs hP hD hS => ?_)
  have hP : va_P G pz_cl [(h0, .inr (0, [.int 0, .ref q1_, .ref q2_, .ref q3_, .int 0, .int 0, .ref q6_, .ref q7_, .ref q8_, .ref q9_, .ref q10_, .ref q11_, .ref q12_, .ref q13_])), (q1_, .inl (c1_, (24, .inl (pz_nF (fun _ => 0))))), (q2_, .inl (c2_, (24, .inl (pz_nF (fun _ => 0))))), (q3_, .inl (c3_, (24, .inl (pz_bF (fun _ => false))))), (q6_, .inl (c6_, (16, .inl (pz_nF (fun _ => 0))))), (q7_, .inl (c7_, (64, .inl (fun _ => 0)))), (q8_, .inl (c8_, (24, .inl (pz_bF (fun _ => false))))), (q9_, .inl (c9_, (24, .inl (pz_nF (fun _ => 0))))), (q10_, .inl (c10_, (24, .inl (fun _ => 0)))), (q11_, .inl (c11_, (24, .inl (fun _ => 0)))), (q12_, .inl (c12_, (24, .inl (pz_bF (fun _ => false))))), (q13_, .inl (c13_, (96, .inl (fun _ => 0))))] H := hP
  have hD : va_D A [(h0, .inr (0, [.int 0, .ref q1_, .ref q2_, .ref q3_, .int 0, .int 0, .ref q6_, .ref q7_, .ref q8_, .ref q9_, .ref q10_, .ref q11_, .ref q12_, .ref q13_])), (q1_, .inl (c1_, (24, .inl (pz_nF (fun _ => 0))))), (q2_, .inl (c2_, (24, .inl (pz_nF (fun _ => 0))))), (q3_, .inl (c3_, (24, .inl (pz_bF (fun _ => false))))), (q6_, .inl (c6_, (16, .inl (pz_nF (fun _ => 0))))), (q7_, .inl (c7_, (64, .inl (fun _ => 0)))), (q8_, .inl (c8_, (24, .inl (pz_bF (fun _ => false))))), (q9_, .inl (c9_, (24, .inl (pz_nF (fun _ => 0))))), (q10_, .inl (c10_, (24, .inl (fun _ => 0)))), (q11_, .inl (c11_, (24, .inl (fun _ => 0)))), (q12_, .inl (c12_, (24, .inl (pz_bF (fun _ => false))))), (q13_, .inl (c13_, (96, .inl (fun _ => 0))))] := hD
  have e2 : c1_ = c2_ := (pz_cA hK 0 1 rfl rfl (by decide)).symm
  have e6 : c1_ = c6_ := (pz_cA hK 0 3 rfl rfl (by decide)).symm
  have e7 : c1_ = c7_ := (pz_cA hK 0 4 rfl rfl (by decide)).symm
  have e9 : c1_ = c9_ := (pz_cA hK 0 6 rfl rfl (by decide)).symm
  have e10 : c1_ = c10_ := (pz_cA hK 0 7 rfl rfl (by decide)).symm
  have e11 : c1_ = c11_ := (pz_cA hK 0 8 rfl rfl (by decide)).symm
  have e13 : c1_ = c13_ := (pz_cA hK 0 10 rfl rfl (by decide)).symm
  have e8 : c3_ = c8_ := (pz_cA hK 2 5 rfl rfl (by decide)).symm
  have e12 : c3_ = c12_ := (pz_cA hK 2 9 rfl rfl (by decide)).symm
  subst e2
  subst e6
  subst e7
  subst e9
  subst e10
  subst e11
  subst e13
  subst e8
  subst e12
  have hK : va_K G pz_cl (pz_ty (G, c1_, c3_)) s := hK.sub [0, 2] rfl
  obtain ⟨ad, had⟩ : ∃ ad : Nat → Nat, ad = fun k => match k with | 0 => h0 | 1 => q1_ | 2 => q2_ | 3 => q3_ | 6 => q6_ | 7 => q7_ | 8 => q8_ | 9 => q9_ | 10 => q10_ | 11 => q11_ | 12 => q12_ | _ => q13_ := ⟨_, rfl⟩
  have ea0 : h0 = ad 0 := by rw [had]; rfl
  have ea1 : q1_ = ad 1 := by rw [had]; rfl
  have ea2 : q2_ = ad 2 := by rw [had]; rfl
  have ea3 : q3_ = ad 3 := by rw [had]; rfl
  have ea6 : q6_ = ad 6 := by rw [had]; rfl
  have ea7 : q7_ = ad 7 := by rw [had]; rfl
  have ea8 : q8_ = ad 8 := by rw [had]; rfl
  have ea9 : q9_ = ad 9 := by rw [had]; rfl
  have ea10 : q10_ = ad 10 := by rw [had]; rfl
  have ea11 : q11_ = ad 11 := by rw [had]; rfl
  have ea12 : q12_ = ad 12 := by rw [had]; rfl
  have ea13 : q13_ = ad 13 := by rw [had]; rfl
  clear had
  subst ea0
  subst ea1
  subst ea2
  subst ea3
  subst ea6
  subst ea7
  subst ea8
  subst ea9
  subst ea10
  subst ea11
  subst ea12
  subst ea13
  have hP : va_P G pz_cl [(ad 0, .inr (0, [.int 0, .ref (ad 1), .ref (ad 2), .ref (ad 3), .int 0, .int 0, .ref (ad 6), .ref (ad 7), .ref (ad 8), .ref (ad 9), .ref (ad 10), .ref (ad 11), .ref (ad 12), .ref (ad 13)])), (ad 1, .inl (c1_, (24, .inl (pz_nF (fun _ => 0))))), (ad 2, .inl (c1_, (24, .inl (pz_nF (fun _ => 0))))), (ad 3, .inl (c3_, (24, .inl (pz_bF (fun _ => false))))), (ad 6, .inl (c1_, (16, .inl (pz_nF (fun _ => 0))))), (ad 7, .inl (c1_, (64, .inl (fun _ => 0)))), (ad 8, .inl (c3_, (24, .inl (pz_bF (fun _ => false))))), (ad 9, .inl (c1_, (24, .inl (pz_nF (fun _ => 0))))), (ad 10, .inl (c1_, (24, .inl (fun _ => 0)))), (ad 11, .inl (c1_, (24, .inl (fun _ => 0)))), (ad 12, .inl (c3_, (24, .inl (pz_bF (fun _ => false))))), (ad 13, .inl (c1_, (96, .inl (fun _ => 0))))] H := hP
  have hD : va_D A [(ad 0, .inr (0, [.int 0, .ref (ad 1), .ref (ad 2), .ref (ad 3), .int 0, .int 0, .ref (ad 6), .ref (ad 7), .ref (ad 8), .ref (ad 9), .ref (ad 10), .ref (ad 11), .ref (ad 12), .ref (ad 13)])), (ad 1, .inl (c1_, (24, .inl (pz_nF (fun _ => 0))))), (ad 2, .inl (c1_, (24, .inl (pz_nF (fun _ => 0))))), (ad 3, .inl (c3_, (24, .inl (pz_bF (fun _ => false))))), (ad 6, .inl (c1_, (16, .inl (pz_nF (fun _ => 0))))), (ad 7, .inl (c1_, (64, .inl (fun _ => 0)))), (ad 8, .inl (c3_, (24, .inl (pz_bF (fun _ => false))))), (ad 9, .inl (c1_, (24, .inl (pz_nF (fun _ => 0))))), (ad 10, .inl (c1_, (24, .inl (fun _ => 0)))), (ad 11, .inl (c1_, (24, .inl (fun _ => 0)))), (ad 12, .inl (c3_, (24, .inl (pz_bF (fun _ => false))))), (ad 13, .inl (c1_, (96, .inl (fun _ => 0))))] := hD
  have lp : ∀ (fr : Nat), 4 ≤ fr → fr ≤ 16 → ∀ (k j : Nat) (fo wh : Nat → Nat) (ru : Nat → Bool) (rl : Nat → Nat), j ≤ 24 → 25 ≤ j + k → (∀ p, p < j → fo p = 2 ∧ wh p = p ∧ ru p = true ∧ rl p = 4) → ∀ (H : Heap) (locs : List Loc), pz_C (pm_W (G, c1_, c3_) ad) (G, c1_, c3_) A s (fr, 0, 0, fo, wh, fun _ => false, fun _ => 0, fun _ => 0, ru, rl, fun _ => 0, fun _ => 0, fun _ => false, fun _ => 0) H locs → ∀ ls : Array Slot, lv_has ls 4 [(3, .int (nI j)), (2, .int (nI fr)), (0, .ref (ad 0)), (1, .int x0)] → W p l e ({ frames := 1, cells := 11, slots := 368, locals := 12 }) s m ([.ref (ad 0), .int x0] : List Value).toArray below meth c H locs 11 368 (MQ below (va_Qv (fun u => pm_Rl u pz_m0) (pz_Bc (ad 0) pm_W G A) A) ([.ref (ad 0), .int x0] : List Value).toArray s 11 368 A) (F0 m 117 ls []) := by
    intro fr h4 h16 k
    induction k with
    | zero => intro j fo wh ru rl _ h; omega
    | succ k ih =>
      intro j fo wh ru rl hj hk ha H locs C ls hl
      refine lv_iload_n hx hb dX1_init_117 rfl (lv_at hl 0 rfl) ?_
      refine lv_bipush (v := nI 24) hx hb dX1_init_118 (by decide +kernel) ?_
      refine pz_cge (tgt := 157) M (by omega) (by omega) dX1_init_120 (by decide) (fun h120 => ?_) (fun h120 => ?_)
      · exact W.vret hx hb hr (fun t ht hW => ⟨⟨_, rfl, Rl_0 h4 h16 (fun p hp => ha p (by omega)), c1_, c3_, ad, rfl, by rw [ht]; exact C.2.1, va_K.moved hW.alike C.1, C.2.2.1⟩, C.2.2.2.F ht⟩) C.2.2.2.2.2 dX1_init_157
      · refine lv_aload_n hx hb dX1_init_123 rfl (lv_at hl 2 rfl) ?_
        refine pm_g_fo M C dX1_init_124 ?_
        refine lv_iload_n hx hb dX1_init_127 rfl (lv_at hl 0 rfl) ?_
        refine lv_iconst (v := nI 2) hx hb dX1_init_128 (by decide +kernel) ?_
        refine pm_s_fo M C (by omega) dX1_init_129 (fun H locs C => ?_)
        refine lv_aload_n hx hb dX1_init_130 rfl (lv_at hl 2 rfl) ?_
        refine pm_g_wh M C dX1_init_131 ?_
        refine lv_iload_n hx hb dX1_init_134 rfl (lv_at hl 0 rfl) ?_
        refine lv_iload_n hx hb dX1_init_135 rfl (lv_at hl 0 rfl) ?_
        refine pm_s_wh M C (by omega) dX1_init_136 (fun H locs C => ?_)
        refine lv_aload_n hx hb dX1_init_137 rfl (lv_at hl 2 rfl) ?_
        refine pm_g_ru M C dX1_init_138 ?_
        refine lv_iload_n hx hb dX1_init_141 rfl (lv_at hl 0 rfl) ?_
        refine lv_iconst (v := pz_b true) hx hb dX1_init_142 (by decide +kernel) ?_
        refine pm_s_ru M C (by omega) dX1_init_143 (fun H locs C => ?_)
        refine lv_aload_n hx hb dX1_init_144 rfl (lv_at hl 2 rfl) ?_
        refine pm_g_rl M C dX1_init_145 ?_
        refine lv_iload_n hx hb dX1_init_148 rfl (lv_at hl 0 rfl) ?_
        refine lv_iconst (v := nI 4) hx hb dX1_init_149 (by decide +kernel) ?_
        refine pm_s_rl M C (by omega) dX1_init_150 (fun H locs C => ?_)
        refine pz_iinc1 (k := 0) (lv' := [(3, _), (2, _), (0, _), (1, _)]) M dX1_init_151 hl rfl (by decide) rfl (fun ls hl => ?_)
        refine lv_goto (tgt := 117) hx hb dX1_init_154 (by decide) ?_
        exact ih (j + 1) _ _ _ _ (by omega) (by omega) (fun p hp => by
    by_cases e : p = j
    · subst e
      exact ⟨va_up_self _ _ _, va_up_self _ _ _, va_up_self _ _ _, va_up_self _ _ _⟩
    · obtain ⟨a, b, d, f⟩ := ha p (by omega)
      exact ⟨(va_up_ne _ _ e).trans a, (va_up_ne _ _ e).trans b, (va_up_ne _ _ e).trans d, (va_up_ne _ _ e).trans f⟩) _ _ C _ (lv_sub hl [0, 1, 2, 3] rfl)
  have j110 : ∀ fr : Nat, 4 ≤ fr → fr ≤ 16 → ∀ ls : Array Slot, lv_has ls 4 [(2, .int (nI fr)), (0, .ref (ad 0)), (1, .int x0)] → W p l e ({ frames := 1, cells := 11, slots := 368, locals := 12 }) s m ([.ref (ad 0), .int x0] : List Value).toArray below meth c H locs 11 368 (MQ below (va_Qv (fun u => pm_Rl u pz_m0) (pz_Bc (ad 0) pm_W G A) A) ([.ref (ad 0), .int x0] : List Value).toArray s 11 368 A) (F0 m 110 ls []) := by
    intro fr h4 h16 ls hl
    refine lv_aload_n hx hb dX1_init_110 rfl (lv_at hl 1 rfl) ?_
    refine lv_iload_n hx hb dX1_init_111 rfl (lv_at hl 0 rfl) ?_
    refine va_putF (D := G) (ci := 0) (v := .int (nI fr)) (ty := .int) (C := RX1) (T := TX1) (N := 14) hx hb hts in_X1 tyX1 tyX1_ok nmX1 hown hK hP hD hS 0 rfl rfl 0 (by decide) (hts _ q28) (fun _ h9 => h9) rfl hin rfl (by decide +kernel) rfl rfl (Nat.le_of_ble_eq_true rfl) dX1_init_112 (fun H locs hP hD hS => ?_)
    have hP : va_P G pz_cl [(ad 0, .inr (0, [.int (nI fr), .ref (ad 1), .ref (ad 2), .ref (ad 3), .int 0, .int 0, .ref (ad 6), .ref (ad 7), .ref (ad 8), .ref (ad 9), .ref (ad 10), .ref (ad 11), .ref (ad 12), .ref (ad 13)])), (ad 1, .inl (c1_, (24, .inl (pz_nF (fun _ => 0))))), (ad 2, .inl (c1_, (24, .inl (pz_nF (fun _ => 0))))), (ad 3, .inl (c3_, (24, .inl (pz_bF (fun _ => false))))), (ad 6, .inl (c1_, (16, .inl (pz_nF (fun _ => 0))))), (ad 7, .inl (c1_, (64, .inl (fun _ => 0)))), (ad 8, .inl (c3_, (24, .inl (pz_bF (fun _ => false))))), (ad 9, .inl (c1_, (24, .inl (pz_nF (fun _ => 0))))), (ad 10, .inl (c1_, (24, .inl (fun _ => 0)))), (ad 11, .inl (c1_, (24, .inl (fun _ => 0)))), (ad 12, .inl (c3_, (24, .inl (pz_bF (fun _ => false))))), (ad 13, .inl (c1_, (96, .inl (fun _ => 0))))] H := hP
    have hD : va_D A [(ad 0, .inr (0, [.int (nI fr), .ref (ad 1), .ref (ad 2), .ref (ad 3), .int 0, .int 0, .ref (ad 6), .ref (ad 7), .ref (ad 8), .ref (ad 9), .ref (ad 10), .ref (ad 11), .ref (ad 12), .ref (ad 13)])), (ad 1, .inl (c1_, (24, .inl (pz_nF (fun _ => 0))))), (ad 2, .inl (c1_, (24, .inl (pz_nF (fun _ => 0))))), (ad 3, .inl (c3_, (24, .inl (pz_bF (fun _ => false))))), (ad 6, .inl (c1_, (16, .inl (pz_nF (fun _ => 0))))), (ad 7, .inl (c1_, (64, .inl (fun _ => 0)))), (ad 8, .inl (c3_, (24, .inl (pz_bF (fun _ => false))))), (ad 9, .inl (c1_, (24, .inl (pz_nF (fun _ => 0))))), (ad 10, .inl (c1_, (24, .inl (fun _ => 0)))), (ad 11, .inl (c1_, (24, .inl (fun _ => 0)))), (ad 12, .inl (c3_, (24, .inl (pz_bF (fun _ => false))))), (ad 13, .inl (c1_, (96, .inl (fun _ => 0))))] := hD
    have C : pz_C (pm_W (G, c1_, c3_) ad) (G, c1_, c3_) A s (fr, 0, 0, fun _ => 0, fun _ => 0, fun _ => false, fun _ => 0, fun _ => 0, fun _ => false, fun _ => 0, fun _ => 0, fun _ => 0, fun _ => false, fun _ => 0) H locs := ⟨hK, by rw [pm_W_eq]; exact hP, by rw [pm_W_eq]; exact hD, hS⟩
    refine lv_iconst (v := nI 0) hx hb dX1_init_115 (by decide +kernel) ?_
    refine lv_istore_n (lv' := [(3, _), (2, _), (0, _), (1, _)]) hx hb dX1_init_116 rfl hl (by decide) rfl (fun ls hl => ?_)
    exact lp fr h4 h16 25 0 _ _ _ _ (by omega) (by omega) (fun p h => absurd h (by omega)) _ _ C _ (lv_sub hl [0, 1, 2, 3] rfl)
  refine lv_iload_n hx hb dX1_init_92 rfl (lv_at hl 1 rfl) ?_
  refine lv_istore_n (lv' := [(2, _), (0, _), (1, _)]) hx hb dX1_init_93 rfl hl (by decide) rfl (fun ls hl => ?_)
  refine lv_iload_n hx hb dX1_init_94 rfl (lv_at hl 0 rfl) ?_
  refine lv_iconst (v := nI 4) hx hb dX1_init_95 (by decide +kernel) ?_
  refine lv_icmp_ge (tgt := 101) hx hb dX1_init_96 (by decide) (fun h96 => ?_) (fun h96 => ?_)
  · refine lv_iload_n hx hb dX1_init_101 rfl (lv_at hl 0 rfl) ?_
    refine lv_bipush (v := nI 16) hx hb dX1_init_102 (by decide +kernel) ?_
    refine lv_icmp_le (tgt := 110) hx hb dX1_init_104 (by decide) (fun h104 => ?_) (fun h104 => ?_)
    · obtain ⟨fr, hfr, rfl⟩ := pz_in_le (by decide) (fun h => absurd (Int32.lt_of_le_of_lt h96 h) (by decide +kernel)) h104
      have h4 := (nI_leI (by decide) (by omega)).mp h96
      exact j110 fr h4 (by omega) _ (lv_sub hl [0, 1, 2] rfl)
    · refine lv_bipush (v := nI 16) hx hb dX1_init_107 (by decide +kernel) ?_
      refine lv_istore_n (lv' := [(2, _), (0, _), (1, _)]) hx hb dX1_init_109 rfl hl (by decide) rfl (fun ls hl => ?_)
      exact j110 16 (by decide) (by decide) _ (lv_sub hl [0, 1, 2] rfl)
  · refine lv_iconst (v := nI 4) hx hb dX1_init_99 (by decide +kernel) ?_
    refine lv_istore_n (lv' := [(2, _), (0, _), (1, _)]) hx hb dX1_init_100 rfl hl (by decide) rfl (fun ls hl => ?_)
    refine lv_iload_n hx hb dX1_init_101 rfl (lv_at hl 0 rfl) ?_
    refine lv_bipush (v := nI 16) hx hb dX1_init_102 (by decide +kernel) ?_
    refine pz_cle (tgt := 110) M (by omega) (by omega) dX1_init_104 (by decide) (fun h104 => ?_) (fun h104 => ?_)
    · exact j110 4 (by decide) (by decide) _ (lv_sub hl [0, 1, 2] rfl)
    · omega
end
section
/-! the law's loop and its start -/
set_option maxRecDepth 100000
set_option maxHeartbeats 4000000 in
theorem law_loop {p : Program} {l : Launch} {e : Env} {s : State} {m : MethodId} {below : List Frame} {meth : Method} {c : Code} {b L : Nat} {xs : Nat → Int32} {g : pz_G} {ad ae : Nat → Nat} (M : CallFix p m c cL_law 4 s #[Value.ref b] lw_all RX0) (hr : meth.sig.returnType = ret) (hlocks : meth.locks = false) (hX : va_X b L xs s s.heap) (hbl : b < s.heap.size) (hL : L ≤ 257) :
    ∀ (n i : Nat), 301 ≤ i + n → i ≤ 300 → ∀ (σ : pm_S) (μ : md_S) (H : Heap) (locs : List Loc), pm_Rl σ μ → pz_C (pm_W g ad) g (lw_A s) s σ H locs → pz_C (md_W g ae) g (lw_A s) s μ H locs → lw_D (pm_W g ad σ) (md_W g ae μ) → ∀ ls : Array Slot, lv_has ls 4 [(0, .ref b), (1, .ref (ad 0)), (2, .ref (ae 0)), (3, .int (nI i))] → W p l e room_1 s m #[Value.ref b] below meth c H locs 15 504 (lw_Z below #[Value.ref b] s) (F0 m 28 ls []) := by
  have hx := M.1
  have hb := M.2.1
  intro n
  induction n with
  | zero => intro i h1 h2; omega
  | succ n ih =>
    intro i hn hi σ μ H locs Rl C1 C2 hap ls hl
    refine lv_iload_n hx hb dL_law_28 rfl (lv_at hl 3 rfl) ?_
    refine lv_aload_n hx hb dL_law_29 rfl (lv_at hl 0 rfl) ?_
    refine va_slen (A := lw_A s) hx hb hX hbl (Nat.not_le.mpr hbl) C1.2.2.2 dL_law_30 ?_
    refine lv_iconst (v := nI 4) hx hb dL_law_31 (by decide +kernel) ?_
    refine lv_isub hx hb dL_law_32 ?_
    refine lv_icmp_gt (tgt := 451) hx hb dL_law_33 (by decide) (fun h33 => ?_) (fun h33 => ?_)
    · refine lv_iconst (v := 1) hx hb dL_law_451 (by decide) ?_
      refine va_forget C1.2.2.2.2.2 ?_
      refine W.widen (k := 600000) (n := 7290000) (by omega) (by omega) ?_
      exact lw_ret hx hb hr hlocks dL_law_452
    · have hiL : i + 4 ≤ L := lw_le hL hi h33
      have K : lw_K p l e s m #[Value.ref b] below meth c (lw_Z below #[Value.ref b] s) b g ad ae i := by
        intro σ μ H locs Rl C1 C2 hap ls hl
        refine pz_iinc4 (k := 3) (lv' := [(3, _), (0, _), (1, _), (2, _)]) M dL_law_445 hl rfl (by decide) rfl (fun ls hl => ?_)
        refine lv_goto (tgt := 28) hx hb dL_law_448 (by decide) ?_
        exact ih (i + 4) (by omega) (by omega) σ μ H locs Rl C1 C2 hap ls (lv_sub hl [1, 2, 3, 0] rfl)
      refine lv_aload_n hx hb dL_law_36 rfl (lv_at hl 0 rfl) ?_
      refine lv_iload_n hx hb dL_law_37 rfl (lv_at hl 3 rfl) ?_
      refine lw_sld M hX hbl hL C1.2.2.2 (by omega) dL_law_38 ?_
      refine lv_bipush (v := 15) hx hb dL_law_39 (by decide +kernel) ?_
      refine lv_iand hx hb dL_law_41 ?_
      obtain ⟨k, hk, ek⟩ := pk_andE (xs i) (m := 15) 4 (by decide +kernel)
      rw [ek]
      rcases (show k = 0 ∨ k = 1 ∨ k = 2 ∨ k = 3 ∨ k = 4 ∨ k = 5 ∨ k = 6 ∨ k = 7 ∨ k = 8 ∨ k = 9 ∨ k = 10 ∨ k = 11 ∨ k = 12 ∨ k = 13 ∨ k = 14 ∨ k = 15 by omega) with rfl | rfl | rfl | rfl | rfl | rfl | rfl | rfl | rfl | rfl | rfl | rfl | rfl | rfl | rfl | rfl
      · refine lv_tableIn (off := 66) (tgt := 108) hx hb dL_law_42 (by decide +kernel) (by decide +kernel) (by decide +kernel) (by decide) ?_
        exact lo_write M hX hbl hL hiL K Rl C1 C2 hap hl
      · refine lv_tableIn (off := 109) (tgt := 151) hx hb dL_law_42 (by decide +kernel) (by decide +kernel) (by decide +kernel) (by decide) ?_
        exact lo_fill M hX hbl hL hiL K Rl C1 C2 hap hl
      · refine lv_tableIn (off := 142) (tgt := 184) hx hb dL_law_42 (by decide +kernel) (by decide +kernel) (by decide +kernel) (by decide) ?_
        exact lo_copy M hX hbl hL hiL K Rl C1 C2 hap hl
      · refine lv_tableIn (off := 175) (tgt := 217) hx hb dL_law_42 (by decide +kernel) (by decide +kernel) (by decide +kernel) (by decide) ?_
        exact lo_swap M hX hbl hL hiL K Rl C1 C2 hap hl
      · refine lv_tableIn (off := 208) (tgt := 250) hx hb dL_law_42 (by decide +kernel) (by decide +kernel) (by decide +kernel) (by decide) ?_
        exact lo_release M hX hbl hL hiL K Rl C1 C2 hap hl
      · refine lv_tableIn (off := 231) (tgt := 273) hx hb dL_law_42 (by decide +kernel) (by decide +kernel) (by decide +kernel) (by decide) ?_
        exact lo_scan M hX hbl hL hiL K Rl C1 C2 hap hl
      · refine lv_tableIn (off := 252) (tgt := 294) hx hb dL_law_42 (by decide +kernel) (by decide +kernel) (by decide +kernel) (by decide) ?_
        exact lo_read M hX hbl hL hiL K Rl C1 C2 hap hl
      · refine lv_tableIn (off := 285) (tgt := 327) hx hb dL_law_42 (by decide +kernel) (by decide +kernel) (by decide +kernel) (by decide) ?_
        exact lo_held M hX hbl hL hiL K Rl C1 C2 hap hl
      · refine lv_tableIn (off := 308) (tgt := 350) hx hb dL_law_42 (by decide +kernel) (by decide +kernel) (by decide +kernel) (by decide) ?_
        exact lo_same M hX hbl hL hiL K Rl C1 C2 hap hl
      · refine lv_tableIn (off := 341) (tgt := 383) hx hb dL_law_42 (by decide +kernel) (by decide +kernel) (by decide +kernel) (by decide) ?_
        exact lo_contents M hX hbl hL hiL K Rl C1 C2 hap hl
      · refine lv_tableIn (off := 354) (tgt := 396) hx hb dL_law_42 (by decide +kernel) (by decide +kernel) (by decide +kernel) (by decide) ?_
        exact lo_duplicates M hX hbl hL hiL K Rl C1 C2 hap hl
      · refine lv_tableIn (off := 367) (tgt := 409) hx hb dL_law_42 (by decide +kernel) (by decide +kernel) (by decide +kernel) (by decide) ?_
        exact lo_sum M hX hbl hL hiL K Rl C1 C2 hap hl
      · refine lv_tableIn (off := 390) (tgt := 432) hx hb dL_law_42 (by decide +kernel) (by decide +kernel) (by decide +kernel) (by decide) ?_
        exact lo_plain M hX hbl hL hiL K Rl C1 C2 hap hl
      · refine lv_tableOut (tgt := 445) hx hb dL_law_42 (by decide +kernel) (by decide) ?_
        exact K _ _ _ _ Rl C1 C2 hap _ hl
      · refine lv_tableOut (tgt := 445) hx hb dL_law_42 (by decide +kernel) (by decide) ?_
        exact K _ _ _ _ Rl C1 C2 hap _ hl
      · refine lv_tableOut (tgt := 445) hx hb dL_law_42 (by decide +kernel) (by decide) ?_
        exact K _ _ _ _ Rl C1 C2 hap _ hl
set_option maxHeartbeats 4000000 in
/-- from the entry, for every script of at most 257 ints, the law comes to its end with true -/
theorem whole_start {p : Program} {e : Env} {s : State} {m : MethodId} {below : List Frame} {meth : Method} {c : Code} (l : Launch) {b L : Nat} {xs : Nat → Int32} (hL : L ≤ 257) (C0 : lw_At p s m meth c b L xs) : W p l e room_1 s m #[Value.ref b] below meth c s.heap [] 0 0 (lw_Z below #[Value.ref b] s) (entryFrame m ([Value.ref b] : List Value).toArray 4) := by
  obtain ⟨hx, hb, hr, hml, hown, hts0, hX, hbl, hlocks, hgv⟩ := C0
  have hts : ∀ w ∈ lw_all, w.before #[Value.ref b] s = true := fun w h => hts0 w (lw_all_tbl h)
  have hown : s.vm.findClass RX0 = some m.cls := hown
  have M : CallFix p m c cL_law 4 s #[Value.ref b] lw_all RX0 := ⟨hx, hb, hml, hown, hts⟩
  have hA : ∀ q : Nat, s.heap.size ≤ q → lw_A s q := fun _ h => h
  obtain ⟨c0, iS0, hKn0⟩ := u_known (C := RX1) (T := TX1) (N := 14) (n := 14) hts in_X1 (hts _ q21)
  obtain ⟨c1, iS1, hKn1⟩ := u_known (C := RX2) (T := TX2) (N := 2) (n := 2) hts in_X2 (hts _ q196)
  obtain ⟨G, hKc⟩ : ∃ G : va_G, ∀ (k : Nat) (q : vw_C), pz_cl[k]? = some q → u_Kn s q.1 q.2.1 q.2.2 (G.1 k) (G.2 k) := by
    refine ⟨(fun k => if k = 0 then c0 else c1, fun k => if k = 0 then iS0 else iS1), ?_⟩
    intro k q hq
    match k, hq with
    | 0, hq => cases hq; exact hKn0
    | 1, hq => cases hq; exact hKn1
    | k + 2, hq => simp [pz_cl] at hq
  have hS : va_S (lw_A s) s.heap s.heap [] := va_S.rf
  have hK : va_K G pz_cl [] s := ⟨hKc, fun k q h => by simp at h⟩
  have hP : va_P G pz_cl [] s.heap := fun k q h => by simp at h
  have hD : va_D (lw_A s) [] := ⟨fun i j p q h => by simp at h, fun k q h => by simp at h⟩
  have hl := lv_entry ([.ref b]) (n := 4) (Nat.le_of_ble_eq_true rfl)
  rw [lg_entry_eq]
  generalize (lg_sl ([.ref b]) ++ List.replicate (4 - (lg_sl ([.ref b])).length) Slot.unset).toArray = ls at hl ⊢
  have hl : lv_has ls 4 [(0, .ref b)] := hl
  refine va_new (ci := 0) (fs := [.int 0, .null, .null, .null, .int 0, .int 0, .null, .null, .null, .null, .null, .null, .null, .null]) (C := RX1) (T := TX1) (N := 14) hx hb hts in_X1 tyX1 tyX1_ok hown (hts _ q20) (hts _ q21) (hts _ q18) hK hP hD hS hA rfl (fun j hj => by rcases (show j = 0 ∨ j = 1 ∨ j = 2 ∨ j = 3 ∨ j = 4 ∨ j = 5 ∨ j = 6 ∨ j = 7 ∨ j = 8 ∨ j = 9 ∨ j = 10 ∨ j = 11 ∨ j = 12 ∨ j = 13 by omega) with rfl | rfl | rfl | rfl | rfl | rfl | rfl | rfl | rfl | rfl | rfl | rfl | rfl | rfl <;> rfl) (Nat.le_of_ble_eq_true rfl) (Nat.le_of_ble_eq_true rfl) dL_law_0 (fun a1 H hP hD hS => ?_)
  have hP : va_P G pz_cl [(a1, .inr (0, [.int 0, .null, .null, .null, .int 0, .int 0, .null, .null, .null, .null, .null, .null, .null, .null]))] H := hP
  have hD : va_D (lw_A s) [(a1, .inr (0, [.int 0, .null, .null, .null, .int 0, .int 0, .null, .null, .null, .null, .null, .null, .null, .null]))] := hD
  refine W.widen (k := 1) (n := 14) (by omega) (by omega) ?_
  refine lv_dup hx hb dL_law_3 rfl ?_
  refine lv_aload_n hx hb dL_law_4 rfl (lv_at hl 0 rfl) ?_
  refine lv_iconst (v := nI 0) hx hb dL_law_5 (by decide +kernel) ?_
  refine va_calli (va_runS (As := [.ref b, .int (nI 0)]) (rest := [.ref a1, .ref a1]) M (mtX0_cell (l := l) (b := b) (L := L) (xs := xs) hL) (va_cwS 2 hts (lw_S q192 q193 q17 q194) rfl rfl rfl (by decide +kernel) ⟨Nat.le_of_ble_eq_true rfl, Nat.le_of_ble_eq_true rfl⟩) ⟨fun a U g mk q => by obtain ⟨q0, q1, q2⟩ := q; exact ⟨q0, va_X.moved (u := U) (U := U.calling g mk a) (Vm.Alike.refl U.vm) q1, q2⟩, fun U hU hW => ⟨rfl, va_X.moved hW.alike (by rw [hU]; exact hX.kept (hS.2.1 b hbl (Nat.not_le.mpr hbl))), by rw [hU]; exact Nat.lt_of_lt_of_le hbl hS.1⟩⟩ rfl rfl hl.1 rfl (lv_room (Nat.le_of_ble_eq_true rfl)) dL_law_6 ⟨Nat.le_of_ble_eq_true rfl, Nat.le_of_ble_eq_true rfl⟩) hS (fun q _ h => h.elim) (fun q h => h.elim) (fun r u t H1 locs ht hvm hw hB hz1 hk1 hS => ?_)
  have hP := hP.kept (fun k q hq => hk1 q.1 ((hP k q hq).lt) (fun h => h))
  clear hB hw hz1 hk1 hvm ht
  generalize H1 = H at hP hS ⊢
  have hFc := va_free (wc := [(a1, .inr (0, [.int 0, .null, .null, .null, .int 0, .int 0, .null, .null, .null, .null, .null, .null, .null, .null]))]) hD hS hA [0] rfl
  refine va_callv (va_runI (As := [.int r]) (rest := [.ref a1]) M (mtX1_init (l := l) (G := G) (h0 := a1) (x0 := r) H.size) (cwI 1 hts (lw_meth q24) rfl rfl rfl (hts _ q18) (hts _ q22) (hts _ q23) rfl (by decide +kernel) ⟨Nat.le_of_ble_eq_true rfl, Nat.le_of_ble_eq_true rfl⟩) ⟨fun a U g mk q => by obtain ⟨q0, q1, qP, qK, qD⟩ := q; exact ⟨q0, q1, qP, va_K.moved (u := U) (U := U.calling g mk a) (Vm.Alike.refl U.vm) qK, qD⟩, fun U hU hW => ⟨rfl, by rw [hU], by rw [hU]; exact hP, va_K.moved hW.alike hK, hD.weaken (fun _ _ _ _ => trivial)⟩⟩ rfl rfl hl.1 rfl (lv_room (Nat.le_of_ble_eq_true rfl)) dL_law_9 ⟨Nat.le_of_ble_eq_true rfl, Nat.le_of_ble_eq_true rfl⟩) hS (fun q _ h => hFc q h) hFc (fun σ t H1 locs ht hvm Rl hB hz1 hk1 hS => ?_)
  obtain ⟨cI, cZ, ad, had, hP1, hK1, hD1⟩ := hB
  rw [ht] at hP1
  have hK1 := va_K.moved hvm.symm hK1
  have hD1 : va_D (lw_A s) (pm_W (G, cI, cZ) ad σ) := hD1.weaken (fun k q _ h => hFc q.1 h)
  clear hz1 hk1 hvm ht hP hD hFc
  generalize H1 = H at hP1 hS ⊢
  refine W.widen (k := 12) (n := 382) (by omega) (by omega) ?_
  refine lv_astore_n (lv' := [(1, .ref a1), (0, .ref b)]) hx hb dL_law_12 rfl hl (by decide) rfl (fun ls hl => ?_)
  refine va_new (ci := 1) (fs := [.null, .null]) (C := RX2) (T := TX2) (N := 2) hx hb hts in_X2 tyX2 tyX2_ok hown (hts _ q195) (hts _ q196) (hts _ q19) hK1 hP1 hD1 hS hA rfl (fun j hj => by rcases (show j = 0 ∨ j = 1 by omega) with rfl | rfl <;> rfl) (Nat.le_of_ble_eq_true rfl) (Nat.le_of_ble_eq_true rfl) dL_law_13 (fun a2 H hP hD hS => ?_)
  obtain ⟨hP1, hP2⟩ := lw_splitP hP
  obtain ⟨hD1, hD2, hap⟩ := lw_split hD
  refine W.widen (k := 13) (n := 384) (by omega) (by omega) ?_
  refine lv_dup hx hb dL_law_16 rfl ?_
  refine lv_aload_n hx hb dL_law_17 rfl (lv_at hl 1 rfl) ?_
  refine lv_iconst (v := nI 0) hx hb dL_law_18 (by decide +kernel) ?_
  refine va_calli (va_runS (As := [.ref b, .int (nI 0)]) (rest := [.ref a2, .ref a2]) M (mtX0_cell (l := l) (b := b) (L := L) (xs := xs) hL) (va_cwS 2 hts (lw_S q192 q193 q17 q194) rfl rfl rfl (by decide +kernel) ⟨Nat.le_of_ble_eq_true rfl, Nat.le_of_ble_eq_true rfl⟩) ⟨fun a U g mk q => by obtain ⟨q0, q1, q2⟩ := q; exact ⟨q0, va_X.moved (u := U) (U := U.calling g mk a) (Vm.Alike.refl U.vm) q1, q2⟩, fun U hU hW => ⟨rfl, va_X.moved hW.alike (by rw [hU]; exact hX.kept (hS.2.1 b hbl (Nat.not_le.mpr hbl))), by rw [hU]; exact Nat.lt_of_lt_of_le hbl hS.1⟩⟩ rfl rfl hl.1 rfl (lv_room (Nat.le_of_ble_eq_true rfl)) dL_law_19 ⟨Nat.le_of_ble_eq_true rfl, Nat.le_of_ble_eq_true rfl⟩) hS (fun q _ h => h.elim) (fun q h => h.elim) (fun r u t H1 locs ht hvm hw hB hz1 hk1 hS => ?_)
  have hP1 := hP1.kept (fun k q hq => hk1 q.1 ((hP1 k q hq).lt) (fun h => h))
  have hP2 := hP2.kept (fun k q hq => hk1 q.1 ((hP2 k q hq).lt) (fun h => h))
  clear hB hw hz1 hk1 hvm ht hP hD
  generalize H1 = H at hP1 hP2 hS ⊢
  have hFc := va_free (wc := [(a2, .inr (1, [.null, .null]))]) hD2 hS hA [0] rfl
  refine va_callv (va_runI (As := [.int r]) (rest := [.ref a2]) M (mtX2_init (l := l) (G := G) (h0 := a2) (x0 := r) H.size) (cwI 1 hts (lw_meth q199) rfl rfl rfl (hts _ q19) (hts _ q197) (hts _ q198) rfl (by decide +kernel) ⟨Nat.le_of_ble_eq_true rfl, Nat.le_of_ble_eq_true rfl⟩) ⟨fun a U g mk q => by obtain ⟨q0, q1, qP, qK, qD⟩ := q; exact ⟨q0, q1, qP, va_K.moved (u := U) (U := U.calling g mk a) (Vm.Alike.refl U.vm) qK, qD⟩, fun U hU hW => ⟨rfl, by rw [hU], by rw [hU]; exact hP2, va_K.moved hW.alike hK, hD2.weaken (fun _ _ _ _ => trivial)⟩⟩ rfl rfl hl.1 rfl (lv_room (Nat.le_of_ble_eq_true rfl)) dL_law_22 ⟨Nat.le_of_ble_eq_true rfl, Nat.le_of_ble_eq_true rfl⟩) hS (fun q _ h => hFc q h) hFc (fun μ t H1 locs ht hvm em hB hz1 hk1 hS => ?_)
  obtain ⟨cI2, cZ2, ae, hae, hP3, hK3, hD3⟩ := hB
  rw [ht] at hP3
  have hK3 := va_K.moved hvm.symm hK3
  have hapN := (lw_apart hP1 hap.sy hD3).sy
  have hP1 := lw_keep hP1 hap.sy hk1
  have hD3 := hD3.weaken (fun k q _ h => hFc q.1 h)
  have eI : cI2 = cI := pz_cA (hK1.app hK3) 0 2 rfl rfl (Or.inl rfl)
  have eZ : cZ2 = cZ := pz_cA (hK1.app hK3) 1 3 rfl rfl (Or.inr rfl)
  subst eI
  subst eZ
  subst em
  refine W.widen (k := 15) (n := 504) (by omega) (by omega) ?_
  refine lv_astore_n (lv' := [(2, .ref a2), (1, .ref a1), (0, .ref b)]) hx hb dL_law_25 rfl hl (by decide) rfl (fun ls hl => ?_)
  refine lv_iconst (v := nI 1) hx hb dL_law_26 (by decide +kernel) ?_
  refine lv_istore_n (lv' := [(3, .int (nI 1)), (2, .ref a2), (1, .ref a1), (0, .ref b)]) hx hb dL_law_27 rfl hl (by decide) rfl (fun ls hl => ?_)
  exact law_loop M hr hlocks hX hbl hL 300 1 (by omega) (by omega) σ pz_m0 _ _ Rl ⟨hK1, hP1, hD1, hS⟩ ⟨hK3, hP3, hD3, hS⟩ hapN ls (by rw [had, hae]; exact lv_sub hl [3, 2, 1, 0] rfl)
end
section
set_option maxRecDepth 100000
set_option maxHeartbeats 4000000 in
theorem lw_walk (l : Launch) (b : Addr) (xs : List Int32) : MetFree l x (headSpec (Jvm.Cond.code x code maxLocals ret :: tables_1) room_1) (lw_P b xs) (fun _ _ _ _ _ => True) lw_Q := by
  refine MetFree.of_bodyS (code := code) (maxLocals := maxLocals) (ret := ret) (by decide) ?_ ?_
  · intro args s m h hn
    obtain ⟨meth, c, h1, h2, h3, h4, h5, h6, -, -⟩ := Cond.code_spec hn (atoms_spec (ws := Jvm.Cond.code x code maxLocals ret :: tables_1) h _ List.mem_cons_self)
    exact ⟨meth, c, h1, h2, h3, h4, h5, h6⟩
  · intro p e s m args below meth c s₁ B hml0 hP _
    obtain ⟨rfl, hx, hbd, hgv⟩ := hP
    obtain ⟨scr, harrAt, hlist, hof, hsmall⟩ := hx
    obtain ⟨hcb, hkn, -, -⟩ := State.arrayAt?_spec harrAt
    have hown : s.vm.findClass R_law = some m.cls := findClass_of_methodNamed B.named
    have hts0 : ∀ c ∈ (Jvm.Cond.code x code maxLocals ret :: tables_1), c.before #[Value.ref b] s = true := atoms_spec (ws := Jvm.Cond.code x code maxLocals ret :: tables_1) B.pre
    have hts : ∀ w ∈ lw_tbl, w.before #[Value.ref b] s = true := k2_hts_sels lw_privs (fun w hw => hts0 w (List.mem_cons_of_mem _ hw)) lw_privs_ok
    have hml : c.maxLocals = 4 := B.maxLocals_eq (hts0 _ List.mem_cons_self)
    have X₀ : Stand p l e room_1 s m #[Value.ref b] below meth c s₁ [] 0 0 := Stand.of_body B
    have hh0 : s₁.heap = s.heap := by rw [B.state]; rfl
    have hsz : scr.slots.size = xs.length := by rw [← Array.length_toList, hlist, List.length_map]
    have hval : ∀ j : Nat, j < xs.length → scr.slots[j]? = some (.int (xs.getD j 0)) := fun j hj => by
      rw [← Array.getElem?_toList, hlist]
      simp [hj]
    have hbl : b < s.heap.size := (Array.getElem?_eq_some_iff.mp hcb).1
    have hX : va_X b xs.length (fun j => xs.getD j 0) s s.heap := ⟨scr, hcb, hof, hkn, hsz, hval⟩
    have K : W p l e room_1 s m #[Value.ref b] below meth c s₁.heap [] 0 0 (lw_Z below #[Value.ref b] s) (entryFrame m ([Value.ref b] : List Value).toArray 4) := by
      rw [hh0]
      exact whole_start l hbd ⟨B.exec, B.bytes, B.returns, hml, hown, hts, hX, hbl, B.notSynchronized, hgv⟩
    obtain ⟨t, a1, o, b1, b2, b3⟩ := K s₁ rfl X₀
    exact ⟨t, o, a1, b1, b2, b3⟩
theorem lw_pre_spec {args : Array Value} {s : State} (h : (Jvm.Cond.and given_1 narrow_1).before args s = true) (hr : rest_1_c.before args s = true) : ∃ (b : Addr) (xs : List Int32), lw_P b xs args s := by
  have hs := flat_of_before _ h
  have hq := flat_of_before _ hr
  have hc : (Cond.count 1).before args s = true := hs _ (by decide +kernel)
  have harr : (Cond.arrayOf (.arg 0) .int).before args s = true := hs _ (by decide +kernel)
  have hle : (Cond.le (.length (.arg 0)) (.int 257)).before args s = true := hs _ (by decide +kernel)
  have hlen : (Cond.isInt (.length (.arg 0))).before args s = true := hq _ (by decide +kernel)
  have hall : (Cond.all (.arg 0) (.isInt (.elem (.arg 0) (.index 0)))).before args s = true := hq _ (by decide +kernel)
  obtain ⟨b, xs, hb, hx⟩ := State.ints_of_pre rfl harr hlen hall
  have hsm : xs.length < 2 ^ 31 := hx.choose_spec.2.2.2
  have hev : (Term.length (.arg 0)).eval args s none [] s = some (.int xs.length.toInt32) := hx.length_eval hb
  have hv := Cond.le_ints hev (show (Term.int 257).eval args s none [] s = some (.int 257) from rfl)
  have hd : xs.length.toInt32 ≤ 257 := by
    simpa [Cond.before, Cond.holds, hv] using hle
  have hN : xs.length ≤ 257 := (Int32.ofNat_le_ofNat hsm (by decide)).mp (show Int32.ofNat xs.length ≤ Int32.ofNat 257 from hd)
  exact ⟨b, xs, Cond.one_arg hc (show args[0]? = some (.ref b) from hb), hx, hN, h⟩
theorem lw_comes (l : Launch) : Comes l x (Jvm.Cond.code x code maxLocals ret :: tables_1) room_1 (fun tb e args s => Calls_1 tb e args s ∧ rest_1 tb e args s ∧ Pre_1 tb e args s)
    (fun _ _ args s o t => lw_Q args s o t) := by
  intro p e ha hc hk s m args below hf hfit hheap happ hpre
  obtain ⟨b, xs, hP⟩ := lw_pre_spec hpre.2.2 hpre.2.1
  obtain ⟨k, o, h1, h2, h3, hQ⟩ := lw_walk l b xs p e ha hc hk s m args below hf ((Spec.applies_iff_loose hf).mp happ).1 hP trivial
  exact ⟨k, o, h1, h2, h3, hQ⟩
theorem lw_frame {s t : State} {o : Outcome} {args : Array Value} (h : Framed s o t [] 600000 7290000) :
    Framed s o t (fieldLocs frame_1_writes args s ++ arrayLocs frame_1_arrays args s ++ staticLocs frame_1_statics s) 600000 7290000 := h
theorem lw_limb (L : Cond) (hL : ∀ (args : Array Value) (s t : State), L.after args s (.returned (some (.int 1))) t = true) :
    ArmFor flags0 classFile x code maxLocals ret World_1 tables_1 room_1 Calls_1 rest_1 Pre_1
      (fun tb e a s o t => postC L tb e a s o t ∧ Framed s o t (fieldLocs frame_1_writes a s ++ arrayLocs frame_1_arrays a s ++ staticLocs frame_1_statics s) 600000 7290000) := by
  intro l _ _ _ p e ha hc hk s m args below hf hfit hheap happ hpre
  obtain ⟨k, o, h1, h2, h3, rfl, hF⟩ := lw_comes l p e ha hc hk s m args below hf hfit hheap happ hpre
  exact ⟨k, _, h1, h2, h3, hL args s _, lw_frame hF⟩
theorem i_vc : Claimed_1_1 ∧ Claimed_1_2 := ⟨lw_limb limb_1_1 (fun args s t => by simp [limb_1_1, Cond.after, Cond.holds, Cond.value]), lw_limb limb_1_2 (fun args s t => Cond.after_iff.mpr (by
  first | (rw [show limb_1_2 = Cond.eq .result (.int 1) from rfl, Cond.eq_ints (x := 1) (y := 1) rfl rfl]; simp; done) | (simp [limb_1_2, Cond.value, Term.eval]; done)))⟩
end
