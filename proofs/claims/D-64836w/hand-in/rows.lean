section
-- ===== PART A: goes FIRST, ahead of the names: the tables' words, and 'selects' of the private methods out of them =====
/-- a private method of a class that the tables say can be made, by its rows of tables_1 -/
def lw_okq (q : MethodName × Nat) : Prop := (q.1.cls ≠ "java/lang/invoke/MethodHandle" ∧ q.1.cls ≠ "java/lang/invoke/VarHandle") ∧ Cond.instantiable q.1.cls q.2 ∈ tables_1 ∧ Cond.privateMethod q.1 ∈ tables_1 ∧ Cond.instanceMethod q.1 ∈ tables_1
set_option maxRecDepth 100000
theorem lw_t1 {w : Cond} (h : w ∈ tables_1_1) : w ∈ tables_1 := List.mem_append_left _ h
theorem lw_t2 {w : Cond} (h : w ∈ tables_1_2) : w ∈ tables_1 := List.mem_append_right _ h
theorem lw_p0 : lw_okq (⟨"LeftistHeaps", "newToken", "(I)V"⟩, 18) := ⟨⟨by decide +kernel, by decide +kernel⟩, lw_t1 (List.mem_of_getElem? (i := 4) rfl), lw_t1 (List.mem_of_getElem? (i := 78) rfl), lw_t1 (List.mem_of_getElem? (i := 79) rfl)⟩
theorem lw_p1 : lw_okq (⟨"LeftistHeaps", "isHeap", "(I)Z"⟩, 18) := ⟨⟨by decide +kernel, by decide +kernel⟩, lw_t1 (List.mem_of_getElem? (i := 4) rfl), lw_t1 (List.mem_of_getElem? (i := 86) rfl), lw_t1 (List.mem_of_getElem? (i := 87) rfl)⟩
theorem lw_p2 : lw_okq (⟨"LeftistHeaps", "clearAll", "()V"⟩, 18) := ⟨⟨by decide +kernel, by decide +kernel⟩, lw_t1 (List.mem_of_getElem? (i := 4) rfl), lw_t1 (List.mem_of_getElem? (i := 90) rfl), lw_t1 (List.mem_of_getElem? (i := 91) rfl)⟩
theorem lw_p3 : lw_okq (⟨"LeftistHeaps", "purge", "(IZ)I"⟩, 18) := ⟨⟨by decide +kernel, by decide +kernel⟩, lw_t1 (List.mem_of_getElem? (i := 4) rfl), lw_t1 (List.mem_of_getElem? (i := 94) rfl), lw_t1 (List.mem_of_getElem? (i := 95) rfl)⟩
theorem lw_p4 : lw_okq (⟨"LeftistHeaps", "release", "(I)V"⟩, 18) := ⟨⟨by decide +kernel, by decide +kernel⟩, lw_t1 (List.mem_of_getElem? (i := 4) rfl), lw_t1 (List.mem_of_getElem? (i := 98) rfl), lw_t1 (List.mem_of_getElem? (i := 99) rfl)⟩
theorem lw_p5 : lw_okq (⟨"LeftistHeaps", "meldRow", "(I)I"⟩, 18) := ⟨⟨by decide +kernel, by decide +kernel⟩, lw_t1 (List.mem_of_getElem? (i := 4) rfl), lw_t1 (List.mem_of_getElem? (i := 102) rfl), lw_t1 (List.mem_of_getElem? (i := 103) rfl)⟩
theorem lw_p6 : lw_okq (⟨"LeftistHeaps", "meldTops", "(II)I"⟩, 18) := ⟨⟨by decide +kernel, by decide +kernel⟩, lw_t1 (List.mem_of_getElem? (i := 4) rfl), lw_t1 (List.mem_of_getElem? (i := 106) rfl), lw_t1 (List.mem_of_getElem? (i := 107) rfl)⟩
theorem lw_p7 : lw_okq (⟨"LeftistHeaps", "isBefore", "(II)Z"⟩, 18) := ⟨⟨by decide +kernel, by decide +kernel⟩, lw_t1 (List.mem_of_getElem? (i := 4) rfl), lw_t1 (List.mem_of_getElem? (i := 110) rfl), lw_t1 (List.mem_of_getElem? (i := 111) rfl)⟩
theorem lw_p8 : lw_okq (⟨"LeftistHeaps", "rankOf", "(I)I"⟩, 18) := ⟨⟨by decide +kernel, by decide +kernel⟩, lw_t1 (List.mem_of_getElem? (i := 4) rfl), lw_t1 (List.mem_of_getElem? (i := 114) rfl), lw_t1 (List.mem_of_getElem? (i := 115) rfl)⟩
theorem lw_p9 : lw_okq (⟨"LeftistHeaps", "isLive", "(I)Z"⟩, 18) := ⟨⟨by decide +kernel, by decide +kernel⟩, lw_t1 (List.mem_of_getElem? (i := 4) rfl), lw_t1 (List.mem_of_getElem? (i := 122) rfl), lw_t1 (List.mem_of_getElem? (i := 123) rfl)⟩
theorem lw_p10 : lw_okq (⟨"LeftistHeaps", "ownerOf", "(I)I"⟩, 18) := ⟨⟨by decide +kernel, by decide +kernel⟩, lw_t1 (List.mem_of_getElem? (i := 4) rfl), lw_t1 (List.mem_of_getElem? (i := 126) rfl), lw_t1 (List.mem_of_getElem? (i := 127) rfl)⟩
theorem lw_p11 : lw_okq (⟨"LeftistHeaps", "purgeTop", "(I)V"⟩, 18) := ⟨⟨by decide +kernel, by decide +kernel⟩, lw_t1 (List.mem_of_getElem? (i := 4) rfl), lw_t1 (List.mem_of_getElem? (i := 134) rfl), lw_t1 (List.mem_of_getElem? (i := 135) rfl)⟩
theorem lw_p12 : lw_okq (⟨"LeftistHeapsModel", "isHeap", "(I)Z"⟩, 13) := ⟨⟨by decide +kernel, by decide +kernel⟩, lw_t1 (List.mem_of_getElem? (i := 167) rfl), lw_t1 (List.mem_of_getElem? (i := 226) rfl), lw_t1 (List.mem_of_getElem? (i := 227) rfl)⟩
theorem lw_p13 : lw_okq (⟨"LeftistHeapsModel", "clearAll", "()V"⟩, 13) := ⟨⟨by decide +kernel, by decide +kernel⟩, lw_t1 (List.mem_of_getElem? (i := 167) rfl), lw_t1 (List.mem_of_getElem? (i := 233) rfl), lw_t1 (List.mem_of_getElem? (i := 234) rfl)⟩
theorem lw_p14 : lw_okq (⟨"LeftistHeapsModel", "clean", "(IZ)V"⟩, 13) := ⟨⟨by decide +kernel, by decide +kernel⟩, lw_t1 (List.mem_of_getElem? (i := 167) rfl), lw_t1 (List.mem_of_getElem? (i := 237) rfl), lw_t1 (List.mem_of_getElem? (i := 238) rfl)⟩
theorem lw_p15 : lw_okq (⟨"LeftistHeapsModel", "goThrough", "(IZ)V"⟩, 13) := ⟨⟨by decide +kernel, by decide +kernel⟩, lw_t1 (List.mem_of_getElem? (i := 167) rfl), lw_t2 (List.mem_of_getElem? (i := 1) rfl), lw_t2 (List.mem_of_getElem? (i := 2) rfl)⟩
def lw_privs_1 : List (MethodName × Nat) := [(⟨"LeftistHeaps", "newToken", "(I)V"⟩, 18), (⟨"LeftistHeaps", "isHeap", "(I)Z"⟩, 18), (⟨"LeftistHeaps", "clearAll", "()V"⟩, 18), (⟨"LeftistHeaps", "purge", "(IZ)I"⟩, 18), (⟨"LeftistHeaps", "release", "(I)V"⟩, 18), (⟨"LeftistHeaps", "meldRow", "(I)I"⟩, 18), (⟨"LeftistHeaps", "meldTops", "(II)I"⟩, 18), (⟨"LeftistHeaps", "isBefore", "(II)Z"⟩, 18), (⟨"LeftistHeaps", "rankOf", "(I)I"⟩, 18), (⟨"LeftistHeaps", "isLive", "(I)Z"⟩, 18), (⟨"LeftistHeaps", "ownerOf", "(I)I"⟩, 18), (⟨"LeftistHeaps", "purgeTop", "(I)V"⟩, 18), (⟨"LeftistHeapsModel", "isHeap", "(I)Z"⟩, 13), (⟨"LeftistHeapsModel", "clearAll", "()V"⟩, 13), (⟨"LeftistHeapsModel", "clean", "(IZ)V"⟩, 13), (⟨"LeftistHeapsModel", "goThrough", "(IZ)V"⟩, 13)]
theorem lw_r1 : ∀ q ∈ lw_privs_1, lw_okq q := List.forall_mem_cons.mpr ⟨lw_p0, List.forall_mem_cons.mpr ⟨lw_p1, List.forall_mem_cons.mpr ⟨lw_p2, List.forall_mem_cons.mpr ⟨lw_p3, List.forall_mem_cons.mpr ⟨lw_p4, List.forall_mem_cons.mpr ⟨lw_p5, List.forall_mem_cons.mpr ⟨lw_p6, List.forall_mem_cons.mpr ⟨lw_p7, List.forall_mem_cons.mpr ⟨lw_p8, List.forall_mem_cons.mpr ⟨lw_p9, List.forall_mem_cons.mpr ⟨lw_p10, List.forall_mem_cons.mpr ⟨lw_p11, List.forall_mem_cons.mpr ⟨lw_p12, List.forall_mem_cons.mpr ⟨lw_p13, List.forall_mem_cons.mpr ⟨lw_p14, List.forall_mem_cons.mpr ⟨lw_p15, fun _ h => absurd h List.not_mem_nil⟩⟩⟩⟩⟩⟩⟩⟩⟩⟩⟩⟩⟩⟩⟩⟩
theorem lw_p16 : lw_okq (⟨"LeftistHeapsModel", "letGo", "(I)V"⟩, 13) := ⟨⟨by decide +kernel, by decide +kernel⟩, lw_t1 (List.mem_of_getElem? (i := 167) rfl), lw_t2 (List.mem_of_getElem? (i := 5) rfl), lw_t2 (List.mem_of_getElem? (i := 6) rfl)⟩
theorem lw_p17 : lw_okq (⟨"LeftistHeapsModel", "alone", "(I)V"⟩, 13) := ⟨⟨by decide +kernel, by decide +kernel⟩, lw_t1 (List.mem_of_getElem? (i := 167) rfl), lw_t2 (List.mem_of_getElem? (i := 9) rfl), lw_t2 (List.mem_of_getElem? (i := 10) rfl)⟩
theorem lw_p18 : lw_okq (⟨"LeftistHeapsModel", "joinRow", "()I"⟩, 13) := ⟨⟨by decide +kernel, by decide +kernel⟩, lw_t1 (List.mem_of_getElem? (i := 167) rfl), lw_t2 (List.mem_of_getElem? (i := 13) rfl), lw_t2 (List.mem_of_getElem? (i := 14) rfl)⟩
theorem lw_p19 : lw_okq (⟨"LeftistHeapsModel", "join", "(II)I"⟩, 13) := ⟨⟨by decide +kernel, by decide +kernel⟩, lw_t1 (List.mem_of_getElem? (i := 167) rfl), lw_t2 (List.mem_of_getElem? (i := 17) rfl), lw_t2 (List.mem_of_getElem? (i := 18) rfl)⟩
theorem lw_p20 : lw_okq (⟨"LeftistHeapsModel", "isBefore", "(II)Z"⟩, 13) := ⟨⟨by decide +kernel, by decide +kernel⟩, lw_t1 (List.mem_of_getElem? (i := 167) rfl), lw_t2 (List.mem_of_getElem? (i := 21) rfl), lw_t2 (List.mem_of_getElem? (i := 22) rfl)⟩
theorem lw_p21 : lw_okq (⟨"LeftistHeapsModel", "rankOf", "(I)I"⟩, 13) := ⟨⟨by decide +kernel, by decide +kernel⟩, lw_t1 (List.mem_of_getElem? (i := 167) rfl), lw_t2 (List.mem_of_getElem? (i := 25) rfl), lw_t2 (List.mem_of_getElem? (i := 26) rfl)⟩
theorem lw_p22 : lw_okq (⟨"LeftistHeapsModel", "look", "(II)I"⟩, 13) := ⟨⟨by decide +kernel, by decide +kernel⟩, lw_t1 (List.mem_of_getElem? (i := 167) rfl), lw_t2 (List.mem_of_getElem? (i := 54) rfl), lw_t2 (List.mem_of_getElem? (i := 55) rfl)⟩
theorem lw_p23 : lw_okq (⟨"LeftistHeapsModel", "heapOf", "(I)I"⟩, 13) := ⟨⟨by decide +kernel, by decide +kernel⟩, lw_t1 (List.mem_of_getElem? (i := 167) rfl), lw_t2 (List.mem_of_getElem? (i := 66) rfl), lw_t2 (List.mem_of_getElem? (i := 67) rfl)⟩
def lw_privs_2 : List (MethodName × Nat) := [(⟨"LeftistHeapsModel", "letGo", "(I)V"⟩, 13), (⟨"LeftistHeapsModel", "alone", "(I)V"⟩, 13), (⟨"LeftistHeapsModel", "joinRow", "()I"⟩, 13), (⟨"LeftistHeapsModel", "join", "(II)I"⟩, 13), (⟨"LeftistHeapsModel", "isBefore", "(II)Z"⟩, 13), (⟨"LeftistHeapsModel", "rankOf", "(I)I"⟩, 13), (⟨"LeftistHeapsModel", "look", "(II)I"⟩, 13), (⟨"LeftistHeapsModel", "heapOf", "(I)I"⟩, 13)]
theorem lw_r2 : ∀ q ∈ lw_privs_2, lw_okq q := List.forall_mem_cons.mpr ⟨lw_p16, List.forall_mem_cons.mpr ⟨lw_p17, List.forall_mem_cons.mpr ⟨lw_p18, List.forall_mem_cons.mpr ⟨lw_p19, List.forall_mem_cons.mpr ⟨lw_p20, List.forall_mem_cons.mpr ⟨lw_p21, List.forall_mem_cons.mpr ⟨lw_p22, List.forall_mem_cons.mpr ⟨lw_p23, fun _ h => absurd h List.not_mem_nil⟩⟩⟩⟩⟩⟩⟩⟩
def lw_privs : List (MethodName × Nat) := lw_privs_1 ++ (lw_privs_2)
def lw_tbl : List Cond := k2_sels lw_privs ++ tables_1
theorem lw_privs_ok : ∀ q ∈ lw_privs, lw_okq q := by
  show ∀ q ∈ lw_privs_1 ++ (lw_privs_2), lw_okq q
  exact List.forall_mem_append.mpr ⟨lw_r1, lw_r2⟩
-- ===== ONE list of words for every method: the tables' words that hold all through a run =====
def lw_all : List Cond := lw_tbl.filter goodWord
/-- a word of the tables by its place: claim/WORDS.tsv -/
theorem lw_w {w : Cond} (i : Nat) (h : lw_tbl[i]? = some w) (g : goodWord w = true) : w ∈ lw_all := List.mem_filter.mpr ⟨List.mem_of_getElem? h, g⟩
theorem lw_all_tbl {w : Cond} (h : w ∈ lw_all) : w ∈ lw_tbl := (List.mem_filter.mp h).1
theorem lw_self : GoodIn lw_all lw_all := fun w h => ⟨h, good_of_word (List.mem_filter.mp h).2⟩
/-- a class's field words, by their places -/
theorem lw_in (ws : List Cond) (ps : List Nat) (hp : ws = ps.filterMap (fun i => lw_tbl[i]?)) (hg : ws.all goodWord = true) : ∀ w ∈ ws, w ∈ lw_all := by
  intro w h
  have h1 := List.all_eq_true.mp hg w h
  rw [hp] at h
  obtain ⟨i, -, hi⟩ := List.mem_filterMap.mp h
  exact lw_w i hi h1
/-- the words of a contract for the method y with code b, L locals, answer r -/
abbrev ws_ (y : MethodName) (b : ByteArray) (L : Nat) (r : Option FieldType) : List Cond := Cond.code y b L r :: lw_all
theorem lw_meth {y : MethodName} {b : ByteArray} {L : Nat} {r : Option FieldType} (h : Cond.code y b L r ∈ lw_all) : GoodIn lw_all (ws_ y b L r) := by
  intro w hw
  rcases List.mem_cons.mp hw with e | e
  · rw [e]
    exact lw_self _ h
  · exact lw_self _ e
theorem lw_app {a c : List Cond} (ha : ∀ w ∈ a, w ∈ lw_all) (hc : GoodIn lw_all c) : GoodIn lw_all (a ++ c) := by
  intro w hw
  rcases List.mem_append.mp hw with e | e
  · exact lw_self w (ha w e)
  · exact hc w e
/-- what a call through an object asks: cwV n hts (lw_V ..) -/
theorem lw_V {own : String} {idx : Nat} {C : String} {y : MethodName} {b : ByteArray} {L : Nat} {r : Option FieldType} (h1 : Cond.methodLink own idx y ∈ lw_all) (h2 : Cond.instanceMethod y ∈ lw_all) (h3 : Cond.selects C y y ∈ lw_all) (h4 : Cond.initialized C ∈ lw_all) (h5 : Cond.code y b L r ∈ lw_all) : GoodIn lw_all (wsV own idx C y (ws_ y b L r)) := by
  refine lw_app ?_ (lw_meth h5)
  intro w hw
  simp only [List.mem_cons, List.not_mem_nil, or_false] at hw
  rcases hw with e | e | e | e
  · rw [e]; exact h1
  · rw [e]; exact h2
  · rw [e]; exact h3
  · rw [e]; exact h4
/-- what a static call asks: va_cwS n hts (lw_S ..) -/
theorem lw_S {own : String} {idx : Nat} {y : MethodName} {b : ByteArray} {L : Nat} {r : Option FieldType} (h1 : Cond.methodLink own idx y ∈ lw_all) (h2 : Cond.static y ∈ lw_all) (h3 : Cond.initialized y.cls ∈ lw_all) (h4 : Cond.code y b L r ∈ lw_all) : GoodIn lw_all (va_wsS own idx y (ws_ y b L r)) := by
  refine lw_app ?_ (lw_meth h4)
  intro w hw
  simp only [List.mem_cons, List.not_mem_nil, or_false] at hw
  rcases hw with e | e | e
  · rw [e]; exact h1
  · rw [e]; exact h2
  · rw [e]; exact h3
/-- the words of a contract for a method WITH HANDLERS (hh: its table) -/
abbrev wsW_ (y : MethodName) (b : ByteArray) (L : Nat) (r : Option FieldType) (hh : List (Nat × Nat × Nat × Nat)) : List Cond := Cond.codeWith y b L r hh :: lw_all
theorem lw_methW {y : MethodName} {b : ByteArray} {L : Nat} {r : Option FieldType} {hh : List (Nat × Nat × Nat × Nat)} (h : Cond.codeWith y b L r hh ∈ lw_all) : GoodIn lw_all (wsW_ y b L r hh) := by
  intro w hw
  rcases List.mem_cons.mp hw with e | e
  · rw [e]
    exact lw_self _ h
  · exact lw_self _ e
/-- any list of words by their places (lw_in), good -/
theorem lw_good {ws : List Cond} (h : ∀ w ∈ ws, w ∈ lw_all) : GoodIn lw_all ws := fun w hw => lw_self w (h w hw)
/-- what a call of a method with handlers asks: vx_cwVW n hts (lw_VW ..), vx_cwSW n hts (lw_SW ..) -/
theorem lw_VW {own : String} {idx : Nat} {C : String} {y : MethodName} {b : ByteArray} {L : Nat} {r : Option FieldType} {hh : List (Nat × Nat × Nat × Nat)} (h1 : Cond.methodLink own idx y ∈ lw_all) (h2 : Cond.instanceMethod y ∈ lw_all) (h3 : Cond.selects C y y ∈ lw_all) (h4 : Cond.initialized C ∈ lw_all) (h5 : Cond.codeWith y b L r hh ∈ lw_all) : GoodIn lw_all (wsV own idx C y (wsW_ y b L r hh)) := by
  refine lw_app ?_ (lw_methW h5)
  intro w hw
  simp only [List.mem_cons, List.not_mem_nil, or_false] at hw
  rcases hw with e | e | e | e
  · rw [e]; exact h1
  · rw [e]; exact h2
  · rw [e]; exact h3
  · rw [e]; exact h4
theorem lw_SW {own : String} {idx : Nat} {y : MethodName} {b : ByteArray} {L : Nat} {r : Option FieldType} {hh : List (Nat × Nat × Nat × Nat)} (h1 : Cond.methodLink own idx y ∈ lw_all) (h2 : Cond.static y ∈ lw_all) (h3 : Cond.initialized y.cls ∈ lw_all) (h4 : Cond.codeWith y b L r hh ∈ lw_all) : GoodIn lw_all (va_wsS own idx y (wsW_ y b L r hh)) := by
  refine lw_app ?_ (lw_methW h4)
  intro w hw
  simp only [List.mem_cons, List.not_mem_nil, or_false] at hw
  rcases hw with e | e | e
  · rw [e]; exact h1
  · rw [e]; exact h2
  · rw [e]; exact h3
/-- a word by its place in its run of the tables -/
theorem lw_at {r : List Cond} (hr : ∀ w ∈ r, w ∈ lw_tbl) {w : Cond} (i : Nat) (h : r[i]? = some w) : w ∈ lw_tbl := hr w (List.mem_of_getElem? h)
theorem lw_g {w : Cond} (h : w ∈ lw_tbl) (g : goodWord w = true) : w ∈ lw_all := List.mem_filter.mpr ⟨h, g⟩
theorem lw_ms : ∀ w ∈ k2_sels lw_privs, w ∈ lw_tbl := fun w h => show w ∈ k2_sels lw_privs ++ tables_1 from List.mem_append_left _ h
theorem lw_m1 : ∀ w ∈ tables_1_1, w ∈ lw_tbl := fun w h => show w ∈ k2_sels lw_privs ++ tables_1 from List.mem_append_right (k2_sels lw_privs) (show w ∈ tables_1 from List.mem_append_left _ h)
theorem lw_m2 : ∀ w ∈ tables_1_2, w ∈ lw_tbl := fun w h => show w ∈ k2_sels lw_privs ++ tables_1 from List.mem_append_right (k2_sels lw_privs) (show w ∈ tables_1 from List.mem_append_right _ h)
theorem qs0 : (Cond.selects "LeftistHeaps" ⟨"LeftistHeaps", "newToken", "(I)V"⟩ ⟨"LeftistHeaps", "newToken", "(I)V"⟩) ∈ lw_all := lw_g (lw_at lw_ms 0 rfl) rfl
theorem qs1 : (Cond.selects "LeftistHeaps" ⟨"LeftistHeaps", "isHeap", "(I)Z"⟩ ⟨"LeftistHeaps", "isHeap", "(I)Z"⟩) ∈ lw_all := lw_g (lw_at lw_ms 1 rfl) rfl
theorem qs2 : (Cond.selects "LeftistHeaps" ⟨"LeftistHeaps", "clearAll", "()V"⟩ ⟨"LeftistHeaps", "clearAll", "()V"⟩) ∈ lw_all := lw_g (lw_at lw_ms 2 rfl) rfl
theorem qs3 : (Cond.selects "LeftistHeaps" ⟨"LeftistHeaps", "purge", "(IZ)I"⟩ ⟨"LeftistHeaps", "purge", "(IZ)I"⟩) ∈ lw_all := lw_g (lw_at lw_ms 3 rfl) rfl
theorem qs4 : (Cond.selects "LeftistHeaps" ⟨"LeftistHeaps", "release", "(I)V"⟩ ⟨"LeftistHeaps", "release", "(I)V"⟩) ∈ lw_all := lw_g (lw_at lw_ms 4 rfl) rfl
theorem qs5 : (Cond.selects "LeftistHeaps" ⟨"LeftistHeaps", "meldRow", "(I)I"⟩ ⟨"LeftistHeaps", "meldRow", "(I)I"⟩) ∈ lw_all := lw_g (lw_at lw_ms 5 rfl) rfl
theorem qs6 : (Cond.selects "LeftistHeaps" ⟨"LeftistHeaps", "meldTops", "(II)I"⟩ ⟨"LeftistHeaps", "meldTops", "(II)I"⟩) ∈ lw_all := lw_g (lw_at lw_ms 6 rfl) rfl
theorem qs7 : (Cond.selects "LeftistHeaps" ⟨"LeftistHeaps", "isBefore", "(II)Z"⟩ ⟨"LeftistHeaps", "isBefore", "(II)Z"⟩) ∈ lw_all := lw_g (lw_at lw_ms 7 rfl) rfl
theorem qs8 : (Cond.selects "LeftistHeaps" ⟨"LeftistHeaps", "rankOf", "(I)I"⟩ ⟨"LeftistHeaps", "rankOf", "(I)I"⟩) ∈ lw_all := lw_g (lw_at lw_ms 8 rfl) rfl
theorem qs9 : (Cond.selects "LeftistHeaps" ⟨"LeftistHeaps", "isLive", "(I)Z"⟩ ⟨"LeftistHeaps", "isLive", "(I)Z"⟩) ∈ lw_all := lw_g (lw_at lw_ms 9 rfl) rfl
theorem qs10 : (Cond.selects "LeftistHeaps" ⟨"LeftistHeaps", "ownerOf", "(I)I"⟩ ⟨"LeftistHeaps", "ownerOf", "(I)I"⟩) ∈ lw_all := lw_g (lw_at lw_ms 10 rfl) rfl
theorem qs11 : (Cond.selects "LeftistHeaps" ⟨"LeftistHeaps", "purgeTop", "(I)V"⟩ ⟨"LeftistHeaps", "purgeTop", "(I)V"⟩) ∈ lw_all := lw_g (lw_at lw_ms 11 rfl) rfl
theorem qs12 : (Cond.selects "LeftistHeapsModel" ⟨"LeftistHeapsModel", "isHeap", "(I)Z"⟩ ⟨"LeftistHeapsModel", "isHeap", "(I)Z"⟩) ∈ lw_all := lw_g (lw_at lw_ms 12 rfl) rfl
theorem qs13 : (Cond.selects "LeftistHeapsModel" ⟨"LeftistHeapsModel", "clearAll", "()V"⟩ ⟨"LeftistHeapsModel", "clearAll", "()V"⟩) ∈ lw_all := lw_g (lw_at lw_ms 13 rfl) rfl
theorem qs14 : (Cond.selects "LeftistHeapsModel" ⟨"LeftistHeapsModel", "clean", "(IZ)V"⟩ ⟨"LeftistHeapsModel", "clean", "(IZ)V"⟩) ∈ lw_all := lw_g (lw_at lw_ms 14 rfl) rfl
theorem qs15 : (Cond.selects "LeftistHeapsModel" ⟨"LeftistHeapsModel", "goThrough", "(IZ)V"⟩ ⟨"LeftistHeapsModel", "goThrough", "(IZ)V"⟩) ∈ lw_all := lw_g (lw_at lw_ms 15 rfl) rfl
theorem qs16 : (Cond.selects "LeftistHeapsModel" ⟨"LeftistHeapsModel", "letGo", "(I)V"⟩ ⟨"LeftistHeapsModel", "letGo", "(I)V"⟩) ∈ lw_all := lw_g (lw_at lw_ms 16 rfl) rfl
theorem qs17 : (Cond.selects "LeftistHeapsModel" ⟨"LeftistHeapsModel", "alone", "(I)V"⟩ ⟨"LeftistHeapsModel", "alone", "(I)V"⟩) ∈ lw_all := lw_g (lw_at lw_ms 17 rfl) rfl
theorem qs18 : (Cond.selects "LeftistHeapsModel" ⟨"LeftistHeapsModel", "joinRow", "()I"⟩ ⟨"LeftistHeapsModel", "joinRow", "()I"⟩) ∈ lw_all := lw_g (lw_at lw_ms 18 rfl) rfl
theorem qs19 : (Cond.selects "LeftistHeapsModel" ⟨"LeftistHeapsModel", "join", "(II)I"⟩ ⟨"LeftistHeapsModel", "join", "(II)I"⟩) ∈ lw_all := lw_g (lw_at lw_ms 19 rfl) rfl
theorem qs20 : (Cond.selects "LeftistHeapsModel" ⟨"LeftistHeapsModel", "isBefore", "(II)Z"⟩ ⟨"LeftistHeapsModel", "isBefore", "(II)Z"⟩) ∈ lw_all := lw_g (lw_at lw_ms 20 rfl) rfl
theorem qs21 : (Cond.selects "LeftistHeapsModel" ⟨"LeftistHeapsModel", "rankOf", "(I)I"⟩ ⟨"LeftistHeapsModel", "rankOf", "(I)I"⟩) ∈ lw_all := lw_g (lw_at lw_ms 21 rfl) rfl
theorem qs22 : (Cond.selects "LeftistHeapsModel" ⟨"LeftistHeapsModel", "look", "(II)I"⟩ ⟨"LeftistHeapsModel", "look", "(II)I"⟩) ∈ lw_all := lw_g (lw_at lw_ms 22 rfl) rfl
theorem qs23 : (Cond.selects "LeftistHeapsModel" ⟨"LeftistHeapsModel", "heapOf", "(I)I"⟩ ⟨"LeftistHeapsModel", "heapOf", "(I)I"⟩) ∈ lw_all := lw_g (lw_at lw_ms 23 rfl) rfl
-- ===== end of PART A; then your names; then what follows =====
end
section
/-! LeftistHeaps -/
set_option maxRecDepth 100000
def RX0 : String := "LeftistHeaps"
def TX0 : u_T := fun k => match k with
  | 0 => ("LeftistHeaps", "key", "[I", true)
  | 1 => ("LeftistHeaps", "left", "[I", true)
  | 2 => ("LeftistHeaps", "right", "[I", true)
  | 3 => ("LeftistHeaps", "rank", "[I", true)
  | 4 => ("LeftistHeaps", "used", "[Z", true)
  | 5 => ("LeftistHeaps", "dead", "[Z", true)
  | 6 => ("LeftistHeaps", "rootOf", "[I", true)
  | 7 => ("LeftistHeaps", "liveOf", "[I", true)
  | 8 => ("LeftistHeaps", "token", "[I", true)
  | 9 => ("LeftistHeaps", "leads", "[I", true)
  | 10 => ("LeftistHeaps", "heapOf", "[I", true)
  | 11 => ("LeftistHeaps", "tokenOf", "[I", true)
  | 12 => ("LeftistHeaps", "pile", "[I", true)
  | 13 => ("LeftistHeaps", "stack", "[I", true)
  | 14 => ("LeftistHeaps", "row", "[I", true)
  | 15 => ("LeftistHeaps", "free", "I", false)
  | 16 => ("LeftistHeaps", "nHeaps", "I", false)
  | _ => ("LeftistHeaps", "tokens", "I", false)
def tyX0 : Nat → FieldType := fun k => match k with
  | 0 => .array .int
  | 1 => .array .int
  | 2 => .array .int
  | 3 => .array .int
  | 4 => .array .boolean
  | 5 => .array .boolean
  | 6 => .array .int
  | 7 => .array .int
  | 8 => .array .int
  | 9 => .array .int
  | 10 => .array .int
  | 11 => .array .int
  | 12 => .array .int
  | 13 => .array .int
  | 14 => .array .int
  | 15 => .int
  | 16 => .int
  | _ => .int
abbrev wsX00 : List Cond := u_ws RX0 TX0 18
set_option maxRecDepth 100000 in
theorem nmX0 : ∀ a, a < 18 → ∀ b, b < 18 → a ≠ b → (TX0 a).2.1 ≠ (TX0 b).2.1 := by decide +kernel
set_option maxRecDepth 100000 in
theorem tyX0_ok : ∀ k, k < 18 → parseFieldDescriptor (TX0 k).2.2.1 = some (tyX0 k) := by decide +kernel
abbrev cX0_init : ByteArray := prog_1_method_1_code
def yX0_init : MethodName := ⟨RX0, "<init>", "()V"⟩
theorem dX0_init_0 : decode cX0_init 0 = .ok (.aload_n 0, 1) := by decide +kernel
theorem dX0_init_1 : decode cX0_init 1 = .ok (.invokespecial 1, 3) := by decide +kernel
theorem dX0_init_4 : decode cX0_init 4 = .ok (.aload_n 0, 1) := by decide +kernel
theorem dX0_init_5 : decode cX0_init 5 = .ok (.bipush 60, 2) := by decide +kernel
theorem dX0_init_7 : decode cX0_init 7 = .ok (.newarray .int, 2) := by decide +kernel
theorem dX0_init_9 : decode cX0_init 9 = .ok (.putfield 7, 3) := by decide +kernel
theorem dX0_init_12 : decode cX0_init 12 = .ok (.aload_n 0, 1) := by decide +kernel
theorem dX0_init_13 : decode cX0_init 13 = .ok (.bipush 60, 2) := by decide +kernel
theorem dX0_init_15 : decode cX0_init 15 = .ok (.newarray .int, 2) := by decide +kernel
theorem dX0_init_17 : decode cX0_init 17 = .ok (.putfield 13, 3) := by decide +kernel
theorem dX0_init_20 : decode cX0_init 20 = .ok (.aload_n 0, 1) := by decide +kernel
theorem dX0_init_21 : decode cX0_init 21 = .ok (.bipush 60, 2) := by decide +kernel
theorem dX0_init_23 : decode cX0_init 23 = .ok (.newarray .int, 2) := by decide +kernel
theorem dX0_init_25 : decode cX0_init 25 = .ok (.putfield 16, 3) := by decide +kernel
theorem dX0_init_28 : decode cX0_init 28 = .ok (.aload_n 0, 1) := by decide +kernel
theorem dX0_init_29 : decode cX0_init 29 = .ok (.bipush 60, 2) := by decide +kernel
theorem dX0_init_31 : decode cX0_init 31 = .ok (.newarray .int, 2) := by decide +kernel
theorem dX0_init_33 : decode cX0_init 33 = .ok (.putfield 19, 3) := by decide +kernel
theorem dX0_init_36 : decode cX0_init 36 = .ok (.aload_n 0, 1) := by decide +kernel
theorem dX0_init_37 : decode cX0_init 37 = .ok (.bipush 60, 2) := by decide +kernel
theorem dX0_init_39 : decode cX0_init 39 = .ok (.newarray .boolean, 2) := by decide +kernel
theorem dX0_init_41 : decode cX0_init 41 = .ok (.putfield 22, 3) := by decide +kernel
theorem dX0_init_44 : decode cX0_init 44 = .ok (.aload_n 0, 1) := by decide +kernel
theorem dX0_init_45 : decode cX0_init 45 = .ok (.bipush 60, 2) := by decide +kernel
theorem dX0_init_47 : decode cX0_init 47 = .ok (.newarray .boolean, 2) := by decide +kernel
theorem dX0_init_49 : decode cX0_init 49 = .ok (.putfield 26, 3) := by decide +kernel
theorem dX0_init_52 : decode cX0_init 52 = .ok (.aload_n 0, 1) := by decide +kernel
theorem dX0_init_53 : decode cX0_init 53 = .ok (.bipush 10, 2) := by decide +kernel
theorem dX0_init_55 : decode cX0_init 55 = .ok (.newarray .int, 2) := by decide +kernel
theorem dX0_init_57 : decode cX0_init 57 = .ok (.putfield 29, 3) := by decide +kernel
theorem dX0_init_60 : decode cX0_init 60 = .ok (.aload_n 0, 1) := by decide +kernel
theorem dX0_init_61 : decode cX0_init 61 = .ok (.bipush 10, 2) := by decide +kernel
theorem dX0_init_63 : decode cX0_init 63 = .ok (.newarray .int, 2) := by decide +kernel
theorem dX0_init_65 : decode cX0_init 65 = .ok (.putfield 32, 3) := by decide +kernel
theorem dX0_init_68 : decode cX0_init 68 = .ok (.aload_n 0, 1) := by decide +kernel
theorem dX0_init_69 : decode cX0_init 69 = .ok (.bipush 60, 2) := by decide +kernel
theorem dX0_init_71 : decode cX0_init 71 = .ok (.newarray .int, 2) := by decide +kernel
theorem dX0_init_73 : decode cX0_init 73 = .ok (.putfield 35, 3) := by decide +kernel
theorem dX0_init_76 : decode cX0_init 76 = .ok (.aload_n 0, 1) := by decide +kernel
theorem dX0_init_77 : decode cX0_init 77 = .ok (.sipush 1100, 3) := by decide +kernel
theorem dX0_init_80 : decode cX0_init 80 = .ok (.newarray .int, 2) := by decide +kernel
theorem dX0_init_82 : decode cX0_init 82 = .ok (.putfield 38, 3) := by decide +kernel
theorem dX0_init_85 : decode cX0_init 85 = .ok (.aload_n 0, 1) := by decide +kernel
theorem dX0_init_86 : decode cX0_init 86 = .ok (.sipush 1100, 3) := by decide +kernel
theorem dX0_init_89 : decode cX0_init 89 = .ok (.newarray .int, 2) := by decide +kernel
theorem dX0_init_91 : decode cX0_init 91 = .ok (.putfield 41, 3) := by decide +kernel
theorem dX0_init_94 : decode cX0_init 94 = .ok (.aload_n 0, 1) := by decide +kernel
theorem dX0_init_95 : decode cX0_init 95 = .ok (.bipush 10, 2) := by decide +kernel
theorem dX0_init_97 : decode cX0_init 97 = .ok (.newarray .int, 2) := by decide +kernel
theorem dX0_init_99 : decode cX0_init 99 = .ok (.putfield 44, 3) := by decide +kernel
theorem dX0_init_102 : decode cX0_init 102 = .ok (.aload_n 0, 1) := by decide +kernel
theorem dX0_init_103 : decode cX0_init 103 = .ok (.bipush 60, 2) := by decide +kernel
theorem dX0_init_105 : decode cX0_init 105 = .ok (.newarray .int, 2) := by decide +kernel
theorem dX0_init_107 : decode cX0_init 107 = .ok (.putfield 47, 3) := by decide +kernel
theorem dX0_init_110 : decode cX0_init 110 = .ok (.aload_n 0, 1) := by decide +kernel
theorem dX0_init_111 : decode cX0_init 111 = .ok (.sipush 130, 3) := by decide +kernel
theorem dX0_init_114 : decode cX0_init 114 = .ok (.newarray .int, 2) := by decide +kernel
theorem dX0_init_116 : decode cX0_init 116 = .ok (.putfield 50, 3) := by decide +kernel
theorem dX0_init_119 : decode cX0_init 119 = .ok (.aload_n 0, 1) := by decide +kernel
theorem dX0_init_120 : decode cX0_init 120 = .ok (.sipush 130, 3) := by decide +kernel
theorem dX0_init_123 : decode cX0_init 123 = .ok (.newarray .int, 2) := by decide +kernel
theorem dX0_init_125 : decode cX0_init 125 = .ok (.putfield 53, 3) := by decide +kernel
theorem dX0_init_128 : decode cX0_init 128 = .ok (.aload_n 0, 1) := by decide +kernel
theorem dX0_init_129 : decode cX0_init 129 = .ok (.invokevirtual 56, 3) := by decide +kernel
theorem dX0_init_132 : decode cX0_init 132 = .ok (.return_, 1) := by decide +kernel
abbrev cX0_init_2 : ByteArray := prog_1_method_2_code
def yX0_init_2 : MethodName := ⟨RX0, "init", "()V"⟩
theorem dX0_init_2_0 : decode cX0_init_2 0 = .ok (.iconst 0, 1) := by decide +kernel
theorem dX0_init_2_1 : decode cX0_init_2 1 = .ok (.istore_n 1, 1) := by decide +kernel
theorem dX0_init_2_2 : decode cX0_init_2 2 = .ok (.iload_n 1, 1) := by decide +kernel
theorem dX0_init_2_3 : decode cX0_init_2 3 = .ok (.bipush 60, 2) := by decide +kernel
theorem dX0_init_2_5 : decode cX0_init_2 5 = .ok (.if_icmp .ge 26, 3) := by decide +kernel
theorem dX0_init_2_8 : decode cX0_init_2 8 = .ok (.aload_n 0, 1) := by decide +kernel
theorem dX0_init_2_9 : decode cX0_init_2 9 = .ok (.getfield 47, 3) := by decide +kernel
theorem dX0_init_2_12 : decode cX0_init_2 12 = .ok (.iload_n 1, 1) := by decide +kernel
theorem dX0_init_2_13 : decode cX0_init_2 13 = .ok (.bipush 59, 2) := by decide +kernel
theorem dX0_init_2_15 : decode cX0_init_2 15 = .ok (.iload_n 1, 1) := by decide +kernel
theorem dX0_init_2_16 : decode cX0_init_2 16 = .ok (.isub, 1) := by decide +kernel
theorem dX0_init_2_17 : decode cX0_init_2 17 = .ok (.iastore, 1) := by decide +kernel
theorem dX0_init_2_18 : decode cX0_init_2 18 = .ok (.aload_n 0, 1) := by decide +kernel
theorem dX0_init_2_19 : decode cX0_init_2 19 = .ok (.getfield 22, 3) := by decide +kernel
theorem dX0_init_2_22 : decode cX0_init_2 22 = .ok (.iload_n 1, 1) := by decide +kernel
theorem dX0_init_2_23 : decode cX0_init_2 23 = .ok (.iconst 0, 1) := by decide +kernel
theorem dX0_init_2_24 : decode cX0_init_2 24 = .ok (.bastore, 1) := by decide +kernel
theorem dX0_init_2_25 : decode cX0_init_2 25 = .ok (.iinc 1 1, 3) := by decide +kernel
theorem dX0_init_2_28 : decode cX0_init_2 28 = .ok (.goto (-26), 3) := by decide +kernel
theorem dX0_init_2_31 : decode cX0_init_2 31 = .ok (.aload_n 0, 1) := by decide +kernel
theorem dX0_init_2_32 : decode cX0_init_2 32 = .ok (.bipush 60, 2) := by decide +kernel
theorem dX0_init_2_34 : decode cX0_init_2 34 = .ok (.putfield 59, 3) := by decide +kernel
theorem dX0_init_2_37 : decode cX0_init_2 37 = .ok (.aload_n 0, 1) := by decide +kernel
theorem dX0_init_2_38 : decode cX0_init_2 38 = .ok (.iconst 0, 1) := by decide +kernel
theorem dX0_init_2_39 : decode cX0_init_2 39 = .ok (.putfield 63, 3) := by decide +kernel
theorem dX0_init_2_42 : decode cX0_init_2 42 = .ok (.aload_n 0, 1) := by decide +kernel
theorem dX0_init_2_43 : decode cX0_init_2 43 = .ok (.iconst 0, 1) := by decide +kernel
theorem dX0_init_2_44 : decode cX0_init_2 44 = .ok (.putfield 66, 3) := by decide +kernel
theorem dX0_init_2_47 : decode cX0_init_2 47 = .ok (.return_, 1) := by decide +kernel
abbrev cX0_newHeap : ByteArray := prog_1_method_6_code
def yX0_newHeap : MethodName := ⟨RX0, "newHeap", "()I"⟩
theorem dX0_newHeap_0 : decode cX0_newHeap 0 = .ok (.aload_n 0, 1) := by decide +kernel
theorem dX0_newHeap_1 : decode cX0_newHeap 1 = .ok (.getfield 63, 3) := by decide +kernel
theorem dX0_newHeap_4 : decode cX0_newHeap 4 = .ok (.bipush 10, 2) := by decide +kernel
theorem dX0_newHeap_6 : decode cX0_newHeap 6 = .ok (.if_icmp .ne 5, 3) := by decide +kernel
theorem dX0_newHeap_9 : decode cX0_newHeap 9 = .ok (.iconst (-1), 1) := by decide +kernel
theorem dX0_newHeap_10 : decode cX0_newHeap 10 = .ok (.ireturn, 1) := by decide +kernel
theorem dX0_newHeap_11 : decode cX0_newHeap 11 = .ok (.aload_n 0, 1) := by decide +kernel
theorem dX0_newHeap_12 : decode cX0_newHeap 12 = .ok (.getfield 29, 3) := by decide +kernel
theorem dX0_newHeap_15 : decode cX0_newHeap 15 = .ok (.aload_n 0, 1) := by decide +kernel
theorem dX0_newHeap_16 : decode cX0_newHeap 16 = .ok (.getfield 63, 3) := by decide +kernel
theorem dX0_newHeap_19 : decode cX0_newHeap 19 = .ok (.iconst (-1), 1) := by decide +kernel
theorem dX0_newHeap_20 : decode cX0_newHeap 20 = .ok (.iastore, 1) := by decide +kernel
theorem dX0_newHeap_21 : decode cX0_newHeap 21 = .ok (.aload_n 0, 1) := by decide +kernel
theorem dX0_newHeap_22 : decode cX0_newHeap 22 = .ok (.getfield 32, 3) := by decide +kernel
theorem dX0_newHeap_25 : decode cX0_newHeap 25 = .ok (.aload_n 0, 1) := by decide +kernel
theorem dX0_newHeap_26 : decode cX0_newHeap 26 = .ok (.getfield 63, 3) := by decide +kernel
theorem dX0_newHeap_29 : decode cX0_newHeap 29 = .ok (.iconst 0, 1) := by decide +kernel
theorem dX0_newHeap_30 : decode cX0_newHeap 30 = .ok (.iastore, 1) := by decide +kernel
theorem dX0_newHeap_31 : decode cX0_newHeap 31 = .ok (.aload_n 0, 1) := by decide +kernel
theorem dX0_newHeap_32 : decode cX0_newHeap 32 = .ok (.aload_n 0, 1) := by decide +kernel
theorem dX0_newHeap_33 : decode cX0_newHeap 33 = .ok (.getfield 63, 3) := by decide +kernel
theorem dX0_newHeap_36 : decode cX0_newHeap 36 = .ok (.invokevirtual 69, 3) := by decide +kernel
theorem dX0_newHeap_39 : decode cX0_newHeap 39 = .ok (.aload_n 0, 1) := by decide +kernel
theorem dX0_newHeap_40 : decode cX0_newHeap 40 = .ok (.dup, 1) := by decide +kernel
theorem dX0_newHeap_41 : decode cX0_newHeap 41 = .ok (.getfield 63, 3) := by decide +kernel
theorem dX0_newHeap_44 : decode cX0_newHeap 44 = .ok (.dup_x1, 1) := by decide +kernel
theorem dX0_newHeap_45 : decode cX0_newHeap 45 = .ok (.iconst 1, 1) := by decide +kernel
theorem dX0_newHeap_46 : decode cX0_newHeap 46 = .ok (.iadd, 1) := by decide +kernel
theorem dX0_newHeap_47 : decode cX0_newHeap 47 = .ok (.putfield 63, 3) := by decide +kernel
theorem dX0_newHeap_50 : decode cX0_newHeap 50 = .ok (.ireturn, 1) := by decide +kernel
abbrev cX0_newToken : ByteArray := prog_1_method_5_code
def yX0_newToken : MethodName := ⟨RX0, "newToken", "(I)V"⟩
theorem dX0_newToken_0 : decode cX0_newToken 0 = .ok (.aload_n 0, 1) := by decide +kernel
theorem dX0_newToken_1 : decode cX0_newToken 1 = .ok (.getfield 44, 3) := by decide +kernel
theorem dX0_newToken_4 : decode cX0_newToken 4 = .ok (.iload_n 1, 1) := by decide +kernel
theorem dX0_newToken_5 : decode cX0_newToken 5 = .ok (.aload_n 0, 1) := by decide +kernel
theorem dX0_newToken_6 : decode cX0_newToken 6 = .ok (.getfield 66, 3) := by decide +kernel
theorem dX0_newToken_9 : decode cX0_newToken 9 = .ok (.iastore, 1) := by decide +kernel
theorem dX0_newToken_10 : decode cX0_newToken 10 = .ok (.aload_n 0, 1) := by decide +kernel
theorem dX0_newToken_11 : decode cX0_newToken 11 = .ok (.getfield 38, 3) := by decide +kernel
theorem dX0_newToken_14 : decode cX0_newToken 14 = .ok (.aload_n 0, 1) := by decide +kernel
theorem dX0_newToken_15 : decode cX0_newToken 15 = .ok (.getfield 66, 3) := by decide +kernel
theorem dX0_newToken_18 : decode cX0_newToken 18 = .ok (.aload_n 0, 1) := by decide +kernel
theorem dX0_newToken_19 : decode cX0_newToken 19 = .ok (.getfield 66, 3) := by decide +kernel
theorem dX0_newToken_22 : decode cX0_newToken 22 = .ok (.iastore, 1) := by decide +kernel
theorem dX0_newToken_23 : decode cX0_newToken 23 = .ok (.aload_n 0, 1) := by decide +kernel
theorem dX0_newToken_24 : decode cX0_newToken 24 = .ok (.getfield 41, 3) := by decide +kernel
theorem dX0_newToken_27 : decode cX0_newToken 27 = .ok (.aload_n 0, 1) := by decide +kernel
theorem dX0_newToken_28 : decode cX0_newToken 28 = .ok (.getfield 66, 3) := by decide +kernel
theorem dX0_newToken_31 : decode cX0_newToken 31 = .ok (.iload_n 1, 1) := by decide +kernel
theorem dX0_newToken_32 : decode cX0_newToken 32 = .ok (.iastore, 1) := by decide +kernel
theorem dX0_newToken_33 : decode cX0_newToken 33 = .ok (.aload_n 0, 1) := by decide +kernel
theorem dX0_newToken_34 : decode cX0_newToken 34 = .ok (.dup, 1) := by decide +kernel
theorem dX0_newToken_35 : decode cX0_newToken 35 = .ok (.getfield 66, 3) := by decide +kernel
theorem dX0_newToken_38 : decode cX0_newToken 38 = .ok (.iconst 1, 1) := by decide +kernel
theorem dX0_newToken_39 : decode cX0_newToken 39 = .ok (.iadd, 1) := by decide +kernel
theorem dX0_newToken_40 : decode cX0_newToken 40 = .ok (.putfield 66, 3) := by decide +kernel
theorem dX0_newToken_43 : decode cX0_newToken 43 = .ok (.return_, 1) := by decide +kernel
abbrev cX0_insert : ByteArray := prog_1_method_15_code
def yX0_insert : MethodName := ⟨RX0, "insert", "(II)I"⟩
theorem dX0_insert_0 : decode cX0_insert 0 = .ok (.aload_n 0, 1) := by decide +kernel
theorem dX0_insert_1 : decode cX0_insert 1 = .ok (.iload_n 1, 1) := by decide +kernel
theorem dX0_insert_2 : decode cX0_insert 2 = .ok (.invokevirtual 95, 3) := by decide +kernel
theorem dX0_insert_5 : decode cX0_insert 5 = .ok (.ifCond .ne 5, 3) := by decide +kernel
theorem dX0_insert_8 : decode cX0_insert 8 = .ok (.iconst (-1), 1) := by decide +kernel
theorem dX0_insert_9 : decode cX0_insert 9 = .ok (.ireturn, 1) := by decide +kernel
theorem dX0_insert_10 : decode cX0_insert 10 = .ok (.aload_n 0, 1) := by decide +kernel
theorem dX0_insert_11 : decode cX0_insert 11 = .ok (.getfield 59, 3) := by decide +kernel
theorem dX0_insert_14 : decode cX0_insert 14 = .ok (.ifCond .ne 7, 3) := by decide +kernel
theorem dX0_insert_17 : decode cX0_insert 17 = .ok (.aload_n 0, 1) := by decide +kernel
theorem dX0_insert_18 : decode cX0_insert 18 = .ok (.invokevirtual 99, 3) := by decide +kernel
theorem dX0_insert_21 : decode cX0_insert 21 = .ok (.aload_n 0, 1) := by decide +kernel
theorem dX0_insert_22 : decode cX0_insert 22 = .ok (.getfield 59, 3) := by decide +kernel
theorem dX0_insert_25 : decode cX0_insert 25 = .ok (.ifCond .ne 6, 3) := by decide +kernel
theorem dX0_insert_28 : decode cX0_insert 28 = .ok (.bipush (-2), 2) := by decide +kernel
theorem dX0_insert_30 : decode cX0_insert 30 = .ok (.ireturn, 1) := by decide +kernel
theorem dX0_insert_31 : decode cX0_insert 31 = .ok (.aload_n 0, 1) := by decide +kernel
theorem dX0_insert_32 : decode cX0_insert 32 = .ok (.dup, 1) := by decide +kernel
theorem dX0_insert_33 : decode cX0_insert 33 = .ok (.getfield 59, 3) := by decide +kernel
theorem dX0_insert_36 : decode cX0_insert 36 = .ok (.iconst 1, 1) := by decide +kernel
theorem dX0_insert_37 : decode cX0_insert 37 = .ok (.isub, 1) := by decide +kernel
theorem dX0_insert_38 : decode cX0_insert 38 = .ok (.putfield 59, 3) := by decide +kernel
theorem dX0_insert_41 : decode cX0_insert 41 = .ok (.aload_n 0, 1) := by decide +kernel
theorem dX0_insert_42 : decode cX0_insert 42 = .ok (.getfield 47, 3) := by decide +kernel
theorem dX0_insert_45 : decode cX0_insert 45 = .ok (.aload_n 0, 1) := by decide +kernel
theorem dX0_insert_46 : decode cX0_insert 46 = .ok (.getfield 59, 3) := by decide +kernel
theorem dX0_insert_49 : decode cX0_insert 49 = .ok (.iaload, 1) := by decide +kernel
theorem dX0_insert_50 : decode cX0_insert 50 = .ok (.istore_n 3, 1) := by decide +kernel
theorem dX0_insert_51 : decode cX0_insert 51 = .ok (.aload_n 0, 1) := by decide +kernel
theorem dX0_insert_52 : decode cX0_insert 52 = .ok (.getfield 7, 3) := by decide +kernel
theorem dX0_insert_55 : decode cX0_insert 55 = .ok (.iload_n 3, 1) := by decide +kernel
theorem dX0_insert_56 : decode cX0_insert 56 = .ok (.iload_n 2, 1) := by decide +kernel
theorem dX0_insert_57 : decode cX0_insert 57 = .ok (.iastore, 1) := by decide +kernel
theorem dX0_insert_58 : decode cX0_insert 58 = .ok (.aload_n 0, 1) := by decide +kernel
theorem dX0_insert_59 : decode cX0_insert 59 = .ok (.getfield 13, 3) := by decide +kernel
theorem dX0_insert_62 : decode cX0_insert 62 = .ok (.iload_n 3, 1) := by decide +kernel
theorem dX0_insert_63 : decode cX0_insert 63 = .ok (.iconst (-1), 1) := by decide +kernel
theorem dX0_insert_64 : decode cX0_insert 64 = .ok (.iastore, 1) := by decide +kernel
theorem dX0_insert_65 : decode cX0_insert 65 = .ok (.aload_n 0, 1) := by decide +kernel
theorem dX0_insert_66 : decode cX0_insert 66 = .ok (.getfield 16, 3) := by decide +kernel
theorem dX0_insert_69 : decode cX0_insert 69 = .ok (.iload_n 3, 1) := by decide +kernel
theorem dX0_insert_70 : decode cX0_insert 70 = .ok (.iconst (-1), 1) := by decide +kernel
theorem dX0_insert_71 : decode cX0_insert 71 = .ok (.iastore, 1) := by decide +kernel
theorem dX0_insert_72 : decode cX0_insert 72 = .ok (.aload_n 0, 1) := by decide +kernel
theorem dX0_insert_73 : decode cX0_insert 73 = .ok (.getfield 19, 3) := by decide +kernel
theorem dX0_insert_76 : decode cX0_insert 76 = .ok (.iload_n 3, 1) := by decide +kernel
theorem dX0_insert_77 : decode cX0_insert 77 = .ok (.iconst 1, 1) := by decide +kernel
theorem dX0_insert_78 : decode cX0_insert 78 = .ok (.iastore, 1) := by decide +kernel
theorem dX0_insert_79 : decode cX0_insert 79 = .ok (.aload_n 0, 1) := by decide +kernel
theorem dX0_insert_80 : decode cX0_insert 80 = .ok (.getfield 22, 3) := by decide +kernel
theorem dX0_insert_83 : decode cX0_insert 83 = .ok (.iload_n 3, 1) := by decide +kernel
theorem dX0_insert_84 : decode cX0_insert 84 = .ok (.iconst 1, 1) := by decide +kernel
theorem dX0_insert_85 : decode cX0_insert 85 = .ok (.bastore, 1) := by decide +kernel
theorem dX0_insert_86 : decode cX0_insert 86 = .ok (.aload_n 0, 1) := by decide +kernel
theorem dX0_insert_87 : decode cX0_insert 87 = .ok (.getfield 26, 3) := by decide +kernel
theorem dX0_insert_90 : decode cX0_insert 90 = .ok (.iload_n 3, 1) := by decide +kernel
theorem dX0_insert_91 : decode cX0_insert 91 = .ok (.iconst 0, 1) := by decide +kernel
theorem dX0_insert_92 : decode cX0_insert 92 = .ok (.bastore, 1) := by decide +kernel
theorem dX0_insert_93 : decode cX0_insert 93 = .ok (.aload_n 0, 1) := by decide +kernel
theorem dX0_insert_94 : decode cX0_insert 94 = .ok (.getfield 35, 3) := by decide +kernel
theorem dX0_insert_97 : decode cX0_insert 97 = .ok (.iload_n 3, 1) := by decide +kernel
theorem dX0_insert_98 : decode cX0_insert 98 = .ok (.aload_n 0, 1) := by decide +kernel
theorem dX0_insert_99 : decode cX0_insert 99 = .ok (.getfield 44, 3) := by decide +kernel
theorem dX0_insert_102 : decode cX0_insert 102 = .ok (.iload_n 1, 1) := by decide +kernel
theorem dX0_insert_103 : decode cX0_insert 103 = .ok (.iaload, 1) := by decide +kernel
theorem dX0_insert_104 : decode cX0_insert 104 = .ok (.iastore, 1) := by decide +kernel
theorem dX0_insert_105 : decode cX0_insert 105 = .ok (.aload_n 0, 1) := by decide +kernel
theorem dX0_insert_106 : decode cX0_insert 106 = .ok (.getfield 32, 3) := by decide +kernel
theorem dX0_insert_109 : decode cX0_insert 109 = .ok (.iload_n 1, 1) := by decide +kernel
theorem dX0_insert_110 : decode cX0_insert 110 = .ok (.dup2, 1) := by decide +kernel
theorem dX0_insert_111 : decode cX0_insert 111 = .ok (.iaload, 1) := by decide +kernel
theorem dX0_insert_112 : decode cX0_insert 112 = .ok (.iconst 1, 1) := by decide +kernel
theorem dX0_insert_113 : decode cX0_insert 113 = .ok (.iadd, 1) := by decide +kernel
theorem dX0_insert_114 : decode cX0_insert 114 = .ok (.iastore, 1) := by decide +kernel
theorem dX0_insert_115 : decode cX0_insert 115 = .ok (.aload_n 0, 1) := by decide +kernel
theorem dX0_insert_116 : decode cX0_insert 116 = .ok (.getfield 29, 3) := by decide +kernel
theorem dX0_insert_119 : decode cX0_insert 119 = .ok (.iload_n 1, 1) := by decide +kernel
theorem dX0_insert_120 : decode cX0_insert 120 = .ok (.aload_n 0, 1) := by decide +kernel
theorem dX0_insert_121 : decode cX0_insert 121 = .ok (.aload_n 0, 1) := by decide +kernel
theorem dX0_insert_122 : decode cX0_insert 122 = .ok (.getfield 29, 3) := by decide +kernel
theorem dX0_insert_125 : decode cX0_insert 125 = .ok (.iload_n 1, 1) := by decide +kernel
theorem dX0_insert_126 : decode cX0_insert 126 = .ok (.iaload, 1) := by decide +kernel
theorem dX0_insert_127 : decode cX0_insert 127 = .ok (.iload_n 3, 1) := by decide +kernel
theorem dX0_insert_128 : decode cX0_insert 128 = .ok (.invokevirtual 81, 3) := by decide +kernel
theorem dX0_insert_131 : decode cX0_insert 131 = .ok (.iastore, 1) := by decide +kernel
theorem dX0_insert_132 : decode cX0_insert 132 = .ok (.iload_n 3, 1) := by decide +kernel
theorem dX0_insert_133 : decode cX0_insert 133 = .ok (.ireturn, 1) := by decide +kernel
abbrev cX0_isHeap : ByteArray := prog_1_method_3_code
def yX0_isHeap : MethodName := ⟨RX0, "isHeap", "(I)Z"⟩
theorem dX0_isHeap_0 : decode cX0_isHeap 0 = .ok (.iload_n 1, 1) := by decide +kernel
theorem dX0_isHeap_1 : decode cX0_isHeap 1 = .ok (.ifCond .lt 15, 3) := by decide +kernel
theorem dX0_isHeap_4 : decode cX0_isHeap 4 = .ok (.iload_n 1, 1) := by decide +kernel
theorem dX0_isHeap_5 : decode cX0_isHeap 5 = .ok (.aload_n 0, 1) := by decide +kernel
theorem dX0_isHeap_6 : decode cX0_isHeap 6 = .ok (.getfield 63, 3) := by decide +kernel
theorem dX0_isHeap_9 : decode cX0_isHeap 9 = .ok (.if_icmp .ge 7, 3) := by decide +kernel
theorem dX0_isHeap_12 : decode cX0_isHeap 12 = .ok (.iconst 1, 1) := by decide +kernel
theorem dX0_isHeap_13 : decode cX0_isHeap 13 = .ok (.goto 4, 3) := by decide +kernel
theorem dX0_isHeap_16 : decode cX0_isHeap 16 = .ok (.iconst 0, 1) := by decide +kernel
theorem dX0_isHeap_17 : decode cX0_isHeap 17 = .ok (.ireturn, 1) := by decide +kernel
abbrev cX0_clearAll : ByteArray := prog_1_method_16_code
def yX0_clearAll : MethodName := ⟨RX0, "clearAll", "()V"⟩
theorem dX0_clearAll_0 : decode cX0_clearAll 0 = .ok (.iconst 0, 1) := by decide +kernel
theorem dX0_clearAll_1 : decode cX0_clearAll 1 = .ok (.istore_n 1, 1) := by decide +kernel
theorem dX0_clearAll_2 : decode cX0_clearAll 2 = .ok (.iload_n 1, 1) := by decide +kernel
theorem dX0_clearAll_3 : decode cX0_clearAll 3 = .ok (.aload_n 0, 1) := by decide +kernel
theorem dX0_clearAll_4 : decode cX0_clearAll 4 = .ok (.getfield 63, 3) := by decide +kernel
theorem dX0_clearAll_7 : decode cX0_clearAll 7 = .ok (.if_icmp .ge 26, 3) := by decide +kernel
theorem dX0_clearAll_10 : decode cX0_clearAll 10 = .ok (.aload_n 0, 1) := by decide +kernel
theorem dX0_clearAll_11 : decode cX0_clearAll 11 = .ok (.getfield 29, 3) := by decide +kernel
theorem dX0_clearAll_14 : decode cX0_clearAll 14 = .ok (.iload_n 1, 1) := by decide +kernel
theorem dX0_clearAll_15 : decode cX0_clearAll 15 = .ok (.aload_n 0, 1) := by decide +kernel
theorem dX0_clearAll_16 : decode cX0_clearAll 16 = .ok (.aload_n 0, 1) := by decide +kernel
theorem dX0_clearAll_17 : decode cX0_clearAll 17 = .ok (.getfield 29, 3) := by decide +kernel
theorem dX0_clearAll_20 : decode cX0_clearAll 20 = .ok (.iload_n 1, 1) := by decide +kernel
theorem dX0_clearAll_21 : decode cX0_clearAll 21 = .ok (.iaload, 1) := by decide +kernel
theorem dX0_clearAll_22 : decode cX0_clearAll 22 = .ok (.iconst 1, 1) := by decide +kernel
theorem dX0_clearAll_23 : decode cX0_clearAll 23 = .ok (.invokevirtual 91, 3) := by decide +kernel
theorem dX0_clearAll_26 : decode cX0_clearAll 26 = .ok (.iastore, 1) := by decide +kernel
theorem dX0_clearAll_27 : decode cX0_clearAll 27 = .ok (.iinc 1 1, 3) := by decide +kernel
theorem dX0_clearAll_30 : decode cX0_clearAll 30 = .ok (.goto (-28), 3) := by decide +kernel
theorem dX0_clearAll_33 : decode cX0_clearAll 33 = .ok (.return_, 1) := by decide +kernel
end
section
set_option maxRecDepth 100000
abbrev cX0_purge : ByteArray := prog_1_method_13_code
def yX0_purge : MethodName := ⟨RX0, "purge", "(IZ)I"⟩
theorem dX0_purge_0 : decode cX0_purge 0 = .ok (.iconst 0, 1) := by decide +kernel
theorem dX0_purge_1 : decode cX0_purge 1 = .ok (.istore_n 3, 1) := by decide +kernel
theorem dX0_purge_2 : decode cX0_purge 2 = .ok (.iconst 0, 1) := by decide +kernel
theorem dX0_purge_3 : decode cX0_purge 3 = .ok (.istore 4, 2) := by decide +kernel
theorem dX0_purge_5 : decode cX0_purge 5 = .ok (.iload_n 1, 1) := by decide +kernel
theorem dX0_purge_6 : decode cX0_purge 6 = .ok (.ifCond .lt 12, 3) := by decide +kernel
theorem dX0_purge_9 : decode cX0_purge 9 = .ok (.aload_n 0, 1) := by decide +kernel
theorem dX0_purge_10 : decode cX0_purge 10 = .ok (.getfield 50, 3) := by decide +kernel
theorem dX0_purge_13 : decode cX0_purge 13 = .ok (.iconst 0, 1) := by decide +kernel
theorem dX0_purge_14 : decode cX0_purge 14 = .ok (.iload_n 1, 1) := by decide +kernel
theorem dX0_purge_15 : decode cX0_purge 15 = .ok (.iastore, 1) := by decide +kernel
theorem dX0_purge_16 : decode cX0_purge 16 = .ok (.iconst 1, 1) := by decide +kernel
theorem dX0_purge_17 : decode cX0_purge 17 = .ok (.istore_n 3, 1) := by decide +kernel
theorem dX0_purge_18 : decode cX0_purge 18 = .ok (.iload_n 3, 1) := by decide +kernel
theorem dX0_purge_19 : decode cX0_purge 19 = .ok (.ifCond .le 151, 3) := by decide +kernel
theorem dX0_purge_22 : decode cX0_purge 22 = .ok (.iinc 3 (-1), 3) := by decide +kernel
theorem dX0_purge_25 : decode cX0_purge 25 = .ok (.aload_n 0, 1) := by decide +kernel
theorem dX0_purge_26 : decode cX0_purge 26 = .ok (.getfield 50, 3) := by decide +kernel
theorem dX0_purge_29 : decode cX0_purge 29 = .ok (.iload_n 3, 1) := by decide +kernel
theorem dX0_purge_30 : decode cX0_purge 30 = .ok (.iaload, 1) := by decide +kernel
theorem dX0_purge_31 : decode cX0_purge 31 = .ok (.istore 5, 2) := by decide +kernel
theorem dX0_purge_33 : decode cX0_purge 33 = .ok (.aload_n 0, 1) := by decide +kernel
theorem dX0_purge_34 : decode cX0_purge 34 = .ok (.getfield 26, 3) := by decide +kernel
theorem dX0_purge_37 : decode cX0_purge 37 = .ok (.iload 5, 2) := by decide +kernel
theorem dX0_purge_39 : decode cX0_purge 39 = .ok (.baload, 1) := by decide +kernel
theorem dX0_purge_40 : decode cX0_purge 40 = .ok (.ifCond .ne 22, 3) := by decide +kernel
theorem dX0_purge_43 : decode cX0_purge 43 = .ok (.iload_n 2, 1) := by decide +kernel
theorem dX0_purge_44 : decode cX0_purge 44 = .ok (.ifCond .ne 18, 3) := by decide +kernel
theorem dX0_purge_47 : decode cX0_purge 47 = .ok (.aload_n 0, 1) := by decide +kernel
theorem dX0_purge_48 : decode cX0_purge 48 = .ok (.getfield 53, 3) := by decide +kernel
theorem dX0_purge_51 : decode cX0_purge 51 = .ok (.iload 4, 2) := by decide +kernel
theorem dX0_purge_53 : decode cX0_purge 53 = .ok (.iload 5, 2) := by decide +kernel
theorem dX0_purge_55 : decode cX0_purge 55 = .ok (.iastore, 1) := by decide +kernel
theorem dX0_purge_56 : decode cX0_purge 56 = .ok (.iinc 4 1, 3) := by decide +kernel
theorem dX0_purge_59 : decode cX0_purge 59 = .ok (.goto (-41), 3) := by decide +kernel
theorem dX0_purge_62 : decode cX0_purge 62 = .ok (.aload_n 0, 1) := by decide +kernel
theorem dX0_purge_63 : decode cX0_purge 63 = .ok (.getfield 13, 3) := by decide +kernel
theorem dX0_purge_66 : decode cX0_purge 66 = .ok (.iload 5, 2) := by decide +kernel
theorem dX0_purge_68 : decode cX0_purge 68 = .ok (.iaload, 1) := by decide +kernel
theorem dX0_purge_69 : decode cX0_purge 69 = .ok (.istore 6, 2) := by decide +kernel
theorem dX0_purge_71 : decode cX0_purge 71 = .ok (.aload_n 0, 1) := by decide +kernel
theorem dX0_purge_72 : decode cX0_purge 72 = .ok (.getfield 16, 3) := by decide +kernel
theorem dX0_purge_75 : decode cX0_purge 75 = .ok (.iload 5, 2) := by decide +kernel
theorem dX0_purge_77 : decode cX0_purge 77 = .ok (.iaload, 1) := by decide +kernel
theorem dX0_purge_78 : decode cX0_purge 78 = .ok (.istore 7, 2) := by decide +kernel
theorem dX0_purge_80 : decode cX0_purge 80 = .ok (.aload_n 0, 1) := by decide +kernel
theorem dX0_purge_81 : decode cX0_purge 81 = .ok (.getfield 26, 3) := by decide +kernel
theorem dX0_purge_84 : decode cX0_purge 84 = .ok (.iload 5, 2) := by decide +kernel
theorem dX0_purge_86 : decode cX0_purge 86 = .ok (.baload, 1) := by decide +kernel
theorem dX0_purge_87 : decode cX0_purge 87 = .ok (.ifCond .eq 12, 3) := by decide +kernel
theorem dX0_purge_90 : decode cX0_purge 90 = .ok (.aload_n 0, 1) := by decide +kernel
theorem dX0_purge_91 : decode cX0_purge 91 = .ok (.iload 5, 2) := by decide +kernel
theorem dX0_purge_93 : decode cX0_purge 93 = .ok (.invokevirtual 85, 3) := by decide +kernel
theorem dX0_purge_96 : decode cX0_purge 96 = .ok (.goto 39, 3) := by decide +kernel
theorem dX0_purge_99 : decode cX0_purge 99 = .ok (.aload_n 0, 1) := by decide +kernel
theorem dX0_purge_100 : decode cX0_purge 100 = .ok (.getfield 13, 3) := by decide +kernel
theorem dX0_purge_103 : decode cX0_purge 103 = .ok (.iload 5, 2) := by decide +kernel
theorem dX0_purge_105 : decode cX0_purge 105 = .ok (.iconst (-1), 1) := by decide +kernel
theorem dX0_purge_106 : decode cX0_purge 106 = .ok (.iastore, 1) := by decide +kernel
theorem dX0_purge_107 : decode cX0_purge 107 = .ok (.aload_n 0, 1) := by decide +kernel
theorem dX0_purge_108 : decode cX0_purge 108 = .ok (.getfield 16, 3) := by decide +kernel
theorem dX0_purge_111 : decode cX0_purge 111 = .ok (.iload 5, 2) := by decide +kernel
theorem dX0_purge_113 : decode cX0_purge 113 = .ok (.iconst (-1), 1) := by decide +kernel
theorem dX0_purge_114 : decode cX0_purge 114 = .ok (.iastore, 1) := by decide +kernel
theorem dX0_purge_115 : decode cX0_purge 115 = .ok (.aload_n 0, 1) := by decide +kernel
theorem dX0_purge_116 : decode cX0_purge 116 = .ok (.getfield 19, 3) := by decide +kernel
theorem dX0_purge_119 : decode cX0_purge 119 = .ok (.iload 5, 2) := by decide +kernel
theorem dX0_purge_121 : decode cX0_purge 121 = .ok (.iconst 1, 1) := by decide +kernel
theorem dX0_purge_122 : decode cX0_purge 122 = .ok (.iastore, 1) := by decide +kernel
theorem dX0_purge_123 : decode cX0_purge 123 = .ok (.aload_n 0, 1) := by decide +kernel
theorem dX0_purge_124 : decode cX0_purge 124 = .ok (.getfield 53, 3) := by decide +kernel
theorem dX0_purge_127 : decode cX0_purge 127 = .ok (.iload 4, 2) := by decide +kernel
theorem dX0_purge_129 : decode cX0_purge 129 = .ok (.iload 5, 2) := by decide +kernel
theorem dX0_purge_131 : decode cX0_purge 131 = .ok (.iastore, 1) := by decide +kernel
theorem dX0_purge_132 : decode cX0_purge 132 = .ok (.iinc 4 1, 3) := by decide +kernel
theorem dX0_purge_135 : decode cX0_purge 135 = .ok (.iload 7, 2) := by decide +kernel
theorem dX0_purge_137 : decode cX0_purge 137 = .ok (.ifCond .lt 14, 3) := by decide +kernel
theorem dX0_purge_140 : decode cX0_purge 140 = .ok (.aload_n 0, 1) := by decide +kernel
theorem dX0_purge_141 : decode cX0_purge 141 = .ok (.getfield 50, 3) := by decide +kernel
theorem dX0_purge_144 : decode cX0_purge 144 = .ok (.iload_n 3, 1) := by decide +kernel
theorem dX0_purge_145 : decode cX0_purge 145 = .ok (.iload 7, 2) := by decide +kernel
theorem dX0_purge_147 : decode cX0_purge 147 = .ok (.iastore, 1) := by decide +kernel
theorem dX0_purge_148 : decode cX0_purge 148 = .ok (.iinc 3 1, 3) := by decide +kernel
theorem dX0_purge_151 : decode cX0_purge 151 = .ok (.iload 6, 2) := by decide +kernel
theorem dX0_purge_153 : decode cX0_purge 153 = .ok (.ifCond .lt 14, 3) := by decide +kernel
theorem dX0_purge_156 : decode cX0_purge 156 = .ok (.aload_n 0, 1) := by decide +kernel
theorem dX0_purge_157 : decode cX0_purge 157 = .ok (.getfield 50, 3) := by decide +kernel
theorem dX0_purge_160 : decode cX0_purge 160 = .ok (.iload_n 3, 1) := by decide +kernel
theorem dX0_purge_161 : decode cX0_purge 161 = .ok (.iload 6, 2) := by decide +kernel
theorem dX0_purge_163 : decode cX0_purge 163 = .ok (.iastore, 1) := by decide +kernel
theorem dX0_purge_164 : decode cX0_purge 164 = .ok (.iinc 3 1, 3) := by decide +kernel
theorem dX0_purge_167 : decode cX0_purge 167 = .ok (.goto (-149), 3) := by decide +kernel
theorem dX0_purge_170 : decode cX0_purge 170 = .ok (.aload_n 0, 1) := by decide +kernel
theorem dX0_purge_171 : decode cX0_purge 171 = .ok (.iload 4, 2) := by decide +kernel
theorem dX0_purge_173 : decode cX0_purge 173 = .ok (.invokevirtual 88, 3) := by decide +kernel
theorem dX0_purge_176 : decode cX0_purge 176 = .ok (.ireturn, 1) := by decide +kernel
abbrev cX0_release : ByteArray := prog_1_method_12_code
def yX0_release : MethodName := ⟨RX0, "release", "(I)V"⟩
theorem dX0_release_0 : decode cX0_release 0 = .ok (.aload_n 0, 1) := by decide +kernel
theorem dX0_release_1 : decode cX0_release 1 = .ok (.getfield 22, 3) := by decide +kernel
theorem dX0_release_4 : decode cX0_release 4 = .ok (.iload_n 1, 1) := by decide +kernel
theorem dX0_release_5 : decode cX0_release 5 = .ok (.iconst 0, 1) := by decide +kernel
theorem dX0_release_6 : decode cX0_release 6 = .ok (.bastore, 1) := by decide +kernel
theorem dX0_release_7 : decode cX0_release 7 = .ok (.aload_n 0, 1) := by decide +kernel
theorem dX0_release_8 : decode cX0_release 8 = .ok (.getfield 47, 3) := by decide +kernel
theorem dX0_release_11 : decode cX0_release 11 = .ok (.aload_n 0, 1) := by decide +kernel
theorem dX0_release_12 : decode cX0_release 12 = .ok (.getfield 59, 3) := by decide +kernel
theorem dX0_release_15 : decode cX0_release 15 = .ok (.iload_n 1, 1) := by decide +kernel
theorem dX0_release_16 : decode cX0_release 16 = .ok (.iastore, 1) := by decide +kernel
theorem dX0_release_17 : decode cX0_release 17 = .ok (.aload_n 0, 1) := by decide +kernel
theorem dX0_release_18 : decode cX0_release 18 = .ok (.dup, 1) := by decide +kernel
theorem dX0_release_19 : decode cX0_release 19 = .ok (.getfield 59, 3) := by decide +kernel
theorem dX0_release_22 : decode cX0_release 22 = .ok (.iconst 1, 1) := by decide +kernel
theorem dX0_release_23 : decode cX0_release 23 = .ok (.iadd, 1) := by decide +kernel
theorem dX0_release_24 : decode cX0_release 24 = .ok (.putfield 59, 3) := by decide +kernel
theorem dX0_release_27 : decode cX0_release 27 = .ok (.return_, 1) := by decide +kernel
abbrev cX0_meldRow : ByteArray := prog_1_method_11_code
def yX0_meldRow : MethodName := ⟨RX0, "meldRow", "(I)I"⟩
theorem dX0_meldRow_0 : decode cX0_meldRow 0 = .ok (.iload_n 1, 1) := by decide +kernel
theorem dX0_meldRow_1 : decode cX0_meldRow 1 = .ok (.ifCond .ne 5, 3) := by decide +kernel
theorem dX0_meldRow_4 : decode cX0_meldRow 4 = .ok (.iconst (-1), 1) := by decide +kernel
theorem dX0_meldRow_5 : decode cX0_meldRow 5 = .ok (.ireturn, 1) := by decide +kernel
theorem dX0_meldRow_6 : decode cX0_meldRow 6 = .ok (.iload_n 1, 1) := by decide +kernel
theorem dX0_meldRow_7 : decode cX0_meldRow 7 = .ok (.istore_n 2, 1) := by decide +kernel
theorem dX0_meldRow_8 : decode cX0_meldRow 8 = .ok (.iload_n 2, 1) := by decide +kernel
theorem dX0_meldRow_9 : decode cX0_meldRow 9 = .ok (.iconst 1, 1) := by decide +kernel
theorem dX0_meldRow_10 : decode cX0_meldRow 10 = .ok (.if_icmp .le 72, 3) := by decide +kernel
theorem dX0_meldRow_13 : decode cX0_meldRow 13 = .ok (.iconst 0, 1) := by decide +kernel
theorem dX0_meldRow_14 : decode cX0_meldRow 14 = .ok (.istore_n 3, 1) := by decide +kernel
theorem dX0_meldRow_15 : decode cX0_meldRow 15 = .ok (.iconst 0, 1) := by decide +kernel
theorem dX0_meldRow_16 : decode cX0_meldRow 16 = .ok (.istore 4, 2) := by decide +kernel
theorem dX0_meldRow_18 : decode cX0_meldRow 18 = .ok (.iload 4, 2) := by decide +kernel
theorem dX0_meldRow_20 : decode cX0_meldRow 20 = .ok (.iload_n 2, 1) := by decide +kernel
theorem dX0_meldRow_21 : decode cX0_meldRow 21 = .ok (.if_icmp .ge 56, 3) := by decide +kernel
theorem dX0_meldRow_24 : decode cX0_meldRow 24 = .ok (.aload_n 0, 1) := by decide +kernel
theorem dX0_meldRow_25 : decode cX0_meldRow 25 = .ok (.getfield 53, 3) := by decide +kernel
theorem dX0_meldRow_28 : decode cX0_meldRow 28 = .ok (.iload_n 3, 1) := by decide +kernel
theorem dX0_meldRow_29 : decode cX0_meldRow 29 = .ok (.iload 4, 2) := by decide +kernel
theorem dX0_meldRow_31 : decode cX0_meldRow 31 = .ok (.iconst 1, 1) := by decide +kernel
theorem dX0_meldRow_32 : decode cX0_meldRow 32 = .ok (.iadd, 1) := by decide +kernel
theorem dX0_meldRow_33 : decode cX0_meldRow 33 = .ok (.iload_n 2, 1) := by decide +kernel
theorem dX0_meldRow_34 : decode cX0_meldRow 34 = .ok (.if_icmp .ge 26, 3) := by decide +kernel
theorem dX0_meldRow_37 : decode cX0_meldRow 37 = .ok (.aload_n 0, 1) := by decide +kernel
theorem dX0_meldRow_38 : decode cX0_meldRow 38 = .ok (.aload_n 0, 1) := by decide +kernel
theorem dX0_meldRow_39 : decode cX0_meldRow 39 = .ok (.getfield 53, 3) := by decide +kernel
theorem dX0_meldRow_42 : decode cX0_meldRow 42 = .ok (.iload 4, 2) := by decide +kernel
theorem dX0_meldRow_44 : decode cX0_meldRow 44 = .ok (.iaload, 1) := by decide +kernel
theorem dX0_meldRow_45 : decode cX0_meldRow 45 = .ok (.aload_n 0, 1) := by decide +kernel
theorem dX0_meldRow_46 : decode cX0_meldRow 46 = .ok (.getfield 53, 3) := by decide +kernel
theorem dX0_meldRow_49 : decode cX0_meldRow 49 = .ok (.iload 4, 2) := by decide +kernel
theorem dX0_meldRow_51 : decode cX0_meldRow 51 = .ok (.iconst 1, 1) := by decide +kernel
theorem dX0_meldRow_52 : decode cX0_meldRow 52 = .ok (.iadd, 1) := by decide +kernel
theorem dX0_meldRow_53 : decode cX0_meldRow 53 = .ok (.iaload, 1) := by decide +kernel
theorem dX0_meldRow_54 : decode cX0_meldRow 54 = .ok (.invokevirtual 81, 3) := by decide +kernel
theorem dX0_meldRow_57 : decode cX0_meldRow 57 = .ok (.goto 10, 3) := by decide +kernel
theorem dX0_meldRow_60 : decode cX0_meldRow 60 = .ok (.aload_n 0, 1) := by decide +kernel
theorem dX0_meldRow_61 : decode cX0_meldRow 61 = .ok (.getfield 53, 3) := by decide +kernel
theorem dX0_meldRow_64 : decode cX0_meldRow 64 = .ok (.iload 4, 2) := by decide +kernel
theorem dX0_meldRow_66 : decode cX0_meldRow 66 = .ok (.iaload, 1) := by decide +kernel
theorem dX0_meldRow_67 : decode cX0_meldRow 67 = .ok (.iastore, 1) := by decide +kernel
theorem dX0_meldRow_68 : decode cX0_meldRow 68 = .ok (.iinc 3 1, 3) := by decide +kernel
theorem dX0_meldRow_71 : decode cX0_meldRow 71 = .ok (.iinc 4 2, 3) := by decide +kernel
theorem dX0_meldRow_74 : decode cX0_meldRow 74 = .ok (.goto (-56), 3) := by decide +kernel
theorem dX0_meldRow_77 : decode cX0_meldRow 77 = .ok (.iload_n 3, 1) := by decide +kernel
theorem dX0_meldRow_78 : decode cX0_meldRow 78 = .ok (.istore_n 2, 1) := by decide +kernel
theorem dX0_meldRow_79 : decode cX0_meldRow 79 = .ok (.goto (-71), 3) := by decide +kernel
theorem dX0_meldRow_82 : decode cX0_meldRow 82 = .ok (.aload_n 0, 1) := by decide +kernel
theorem dX0_meldRow_83 : decode cX0_meldRow 83 = .ok (.getfield 53, 3) := by decide +kernel
theorem dX0_meldRow_86 : decode cX0_meldRow 86 = .ok (.iconst 0, 1) := by decide +kernel
theorem dX0_meldRow_87 : decode cX0_meldRow 87 = .ok (.iaload, 1) := by decide +kernel
theorem dX0_meldRow_88 : decode cX0_meldRow 88 = .ok (.ireturn, 1) := by decide +kernel
abbrev cX0_meldTops : ByteArray := prog_1_method_10_code
def yX0_meldTops : MethodName := ⟨RX0, "meldTops", "(II)I"⟩
theorem dX0_meldTops_0 : decode cX0_meldTops 0 = .ok (.iload_n 1, 1) := by decide +kernel
theorem dX0_meldTops_1 : decode cX0_meldTops 1 = .ok (.istore_n 3, 1) := by decide +kernel
theorem dX0_meldTops_2 : decode cX0_meldTops 2 = .ok (.iload_n 2, 1) := by decide +kernel
theorem dX0_meldTops_3 : decode cX0_meldTops 3 = .ok (.istore 4, 2) := by decide +kernel
theorem dX0_meldTops_5 : decode cX0_meldTops 5 = .ok (.iconst 0, 1) := by decide +kernel
theorem dX0_meldTops_6 : decode cX0_meldTops 6 = .ok (.istore 5, 2) := by decide +kernel
theorem dX0_meldTops_8 : decode cX0_meldTops 8 = .ok (.iload_n 3, 1) := by decide +kernel
theorem dX0_meldTops_9 : decode cX0_meldTops 9 = .ok (.ifCond .lt 69, 3) := by decide +kernel
theorem dX0_meldTops_12 : decode cX0_meldTops 12 = .ok (.iload 4, 2) := by decide +kernel
theorem dX0_meldTops_14 : decode cX0_meldTops 14 = .ok (.ifCond .lt 64, 3) := by decide +kernel
theorem dX0_meldTops_17 : decode cX0_meldTops 17 = .ok (.aload_n 0, 1) := by decide +kernel
theorem dX0_meldTops_18 : decode cX0_meldTops 18 = .ok (.iload_n 3, 1) := by decide +kernel
theorem dX0_meldTops_19 : decode cX0_meldTops 19 = .ok (.iload 4, 2) := by decide +kernel
theorem dX0_meldTops_21 : decode cX0_meldTops 21 = .ok (.invokevirtual 73, 3) := by decide +kernel
theorem dX0_meldTops_24 : decode cX0_meldTops 24 = .ok (.istore 6, 2) := by decide +kernel
theorem dX0_meldTops_26 : decode cX0_meldTops 26 = .ok (.iload 6, 2) := by decide +kernel
theorem dX0_meldTops_28 : decode cX0_meldTops 28 = .ok (.ifCond .eq 7, 3) := by decide +kernel
theorem dX0_meldTops_31 : decode cX0_meldTops 31 = .ok (.iload_n 3, 1) := by decide +kernel
theorem dX0_meldTops_32 : decode cX0_meldTops 32 = .ok (.goto 5, 3) := by decide +kernel
theorem dX0_meldTops_35 : decode cX0_meldTops 35 = .ok (.iload 4, 2) := by decide +kernel
theorem dX0_meldTops_37 : decode cX0_meldTops 37 = .ok (.istore 7, 2) := by decide +kernel
theorem dX0_meldTops_39 : decode cX0_meldTops 39 = .ok (.aload_n 0, 1) := by decide +kernel
theorem dX0_meldTops_40 : decode cX0_meldTops 40 = .ok (.getfield 50, 3) := by decide +kernel
theorem dX0_meldTops_43 : decode cX0_meldTops 43 = .ok (.iload 5, 2) := by decide +kernel
theorem dX0_meldTops_45 : decode cX0_meldTops 45 = .ok (.iload 7, 2) := by decide +kernel
theorem dX0_meldTops_47 : decode cX0_meldTops 47 = .ok (.iastore, 1) := by decide +kernel
theorem dX0_meldTops_48 : decode cX0_meldTops 48 = .ok (.iinc 5 1, 3) := by decide +kernel
theorem dX0_meldTops_51 : decode cX0_meldTops 51 = .ok (.iload 6, 2) := by decide +kernel
theorem dX0_meldTops_53 : decode cX0_meldTops 53 = .ok (.ifCond .eq 13, 3) := by decide +kernel
theorem dX0_meldTops_56 : decode cX0_meldTops 56 = .ok (.aload_n 0, 1) := by decide +kernel
theorem dX0_meldTops_57 : decode cX0_meldTops 57 = .ok (.getfield 16, 3) := by decide +kernel
theorem dX0_meldTops_60 : decode cX0_meldTops 60 = .ok (.iload_n 3, 1) := by decide +kernel
theorem dX0_meldTops_61 : decode cX0_meldTops 61 = .ok (.iaload, 1) := by decide +kernel
theorem dX0_meldTops_62 : decode cX0_meldTops 62 = .ok (.istore_n 3, 1) := by decide +kernel
theorem dX0_meldTops_63 : decode cX0_meldTops 63 = .ok (.goto 12, 3) := by decide +kernel
theorem dX0_meldTops_66 : decode cX0_meldTops 66 = .ok (.aload_n 0, 1) := by decide +kernel
theorem dX0_meldTops_67 : decode cX0_meldTops 67 = .ok (.getfield 16, 3) := by decide +kernel
theorem dX0_meldTops_70 : decode cX0_meldTops 70 = .ok (.iload 4, 2) := by decide +kernel
theorem dX0_meldTops_72 : decode cX0_meldTops 72 = .ok (.iaload, 1) := by decide +kernel
theorem dX0_meldTops_73 : decode cX0_meldTops 73 = .ok (.istore 4, 2) := by decide +kernel
theorem dX0_meldTops_75 : decode cX0_meldTops 75 = .ok (.goto (-67), 3) := by decide +kernel
theorem dX0_meldTops_78 : decode cX0_meldTops 78 = .ok (.iload_n 3, 1) := by decide +kernel
theorem dX0_meldTops_79 : decode cX0_meldTops 79 = .ok (.ifCond .lt 7, 3) := by decide +kernel
theorem dX0_meldTops_82 : decode cX0_meldTops 82 = .ok (.iload_n 3, 1) := by decide +kernel
theorem dX0_meldTops_83 : decode cX0_meldTops 83 = .ok (.goto 5, 3) := by decide +kernel
theorem dX0_meldTops_86 : decode cX0_meldTops 86 = .ok (.iload 4, 2) := by decide +kernel
theorem dX0_meldTops_88 : decode cX0_meldTops 88 = .ok (.istore 6, 2) := by decide +kernel
theorem dX0_meldTops_90 : decode cX0_meldTops 90 = .ok (.iload 5, 2) := by decide +kernel
theorem dX0_meldTops_92 : decode cX0_meldTops 92 = .ok (.iconst 1, 1) := by decide +kernel
theorem dX0_meldTops_93 : decode cX0_meldTops 93 = .ok (.isub, 1) := by decide +kernel
theorem dX0_meldTops_94 : decode cX0_meldTops 94 = .ok (.istore 7, 2) := by decide +kernel
theorem dX0_meldTops_96 : decode cX0_meldTops 96 = .ok (.iload 7, 2) := by decide +kernel
theorem dX0_meldTops_98 : decode cX0_meldTops 98 = .ok (.ifCond .lt 99, 3) := by decide +kernel
theorem dX0_meldTops_101 : decode cX0_meldTops 101 = .ok (.aload_n 0, 1) := by decide +kernel
theorem dX0_meldTops_102 : decode cX0_meldTops 102 = .ok (.getfield 50, 3) := by decide +kernel
theorem dX0_meldTops_105 : decode cX0_meldTops 105 = .ok (.iload 7, 2) := by decide +kernel
theorem dX0_meldTops_107 : decode cX0_meldTops 107 = .ok (.iaload, 1) := by decide +kernel
theorem dX0_meldTops_108 : decode cX0_meldTops 108 = .ok (.istore 8, 2) := by decide +kernel
theorem dX0_meldTops_110 : decode cX0_meldTops 110 = .ok (.aload_n 0, 1) := by decide +kernel
theorem dX0_meldTops_111 : decode cX0_meldTops 111 = .ok (.getfield 16, 3) := by decide +kernel
theorem dX0_meldTops_114 : decode cX0_meldTops 114 = .ok (.iload 8, 2) := by decide +kernel
theorem dX0_meldTops_116 : decode cX0_meldTops 116 = .ok (.iload 6, 2) := by decide +kernel
theorem dX0_meldTops_118 : decode cX0_meldTops 118 = .ok (.iastore, 1) := by decide +kernel
theorem dX0_meldTops_119 : decode cX0_meldTops 119 = .ok (.aload_n 0, 1) := by decide +kernel
theorem dX0_meldTops_120 : decode cX0_meldTops 120 = .ok (.aload_n 0, 1) := by decide +kernel
theorem dX0_meldTops_121 : decode cX0_meldTops 121 = .ok (.getfield 16, 3) := by decide +kernel
theorem dX0_meldTops_124 : decode cX0_meldTops 124 = .ok (.iload 8, 2) := by decide +kernel
theorem dX0_meldTops_126 : decode cX0_meldTops 126 = .ok (.iaload, 1) := by decide +kernel
theorem dX0_meldTops_127 : decode cX0_meldTops 127 = .ok (.invokevirtual 77, 3) := by decide +kernel
theorem dX0_meldTops_130 : decode cX0_meldTops 130 = .ok (.aload_n 0, 1) := by decide +kernel
theorem dX0_meldTops_131 : decode cX0_meldTops 131 = .ok (.aload_n 0, 1) := by decide +kernel
theorem dX0_meldTops_132 : decode cX0_meldTops 132 = .ok (.getfield 13, 3) := by decide +kernel
theorem dX0_meldTops_135 : decode cX0_meldTops 135 = .ok (.iload 8, 2) := by decide +kernel
theorem dX0_meldTops_137 : decode cX0_meldTops 137 = .ok (.iaload, 1) := by decide +kernel
theorem dX0_meldTops_138 : decode cX0_meldTops 138 = .ok (.invokevirtual 77, 3) := by decide +kernel
theorem dX0_meldTops_141 : decode cX0_meldTops 141 = .ok (.if_icmp .le 26, 3) := by decide +kernel
theorem dX0_meldTops_144 : decode cX0_meldTops 144 = .ok (.aload_n 0, 1) := by decide +kernel
theorem dX0_meldTops_145 : decode cX0_meldTops 145 = .ok (.getfield 16, 3) := by decide +kernel
theorem dX0_meldTops_148 : decode cX0_meldTops 148 = .ok (.iload 8, 2) := by decide +kernel
theorem dX0_meldTops_150 : decode cX0_meldTops 150 = .ok (.aload_n 0, 1) := by decide +kernel
theorem dX0_meldTops_151 : decode cX0_meldTops 151 = .ok (.getfield 13, 3) := by decide +kernel
theorem dX0_meldTops_154 : decode cX0_meldTops 154 = .ok (.iload 8, 2) := by decide +kernel
theorem dX0_meldTops_156 : decode cX0_meldTops 156 = .ok (.iaload, 1) := by decide +kernel
theorem dX0_meldTops_157 : decode cX0_meldTops 157 = .ok (.iastore, 1) := by decide +kernel
theorem dX0_meldTops_158 : decode cX0_meldTops 158 = .ok (.aload_n 0, 1) := by decide +kernel
theorem dX0_meldTops_159 : decode cX0_meldTops 159 = .ok (.getfield 13, 3) := by decide +kernel
theorem dX0_meldTops_162 : decode cX0_meldTops 162 = .ok (.iload 8, 2) := by decide +kernel
theorem dX0_meldTops_164 : decode cX0_meldTops 164 = .ok (.iload 6, 2) := by decide +kernel
theorem dX0_meldTops_166 : decode cX0_meldTops 166 = .ok (.iastore, 1) := by decide +kernel
theorem dX0_meldTops_167 : decode cX0_meldTops 167 = .ok (.aload_n 0, 1) := by decide +kernel
theorem dX0_meldTops_168 : decode cX0_meldTops 168 = .ok (.getfield 19, 3) := by decide +kernel
theorem dX0_meldTops_171 : decode cX0_meldTops 171 = .ok (.iload 8, 2) := by decide +kernel
theorem dX0_meldTops_173 : decode cX0_meldTops 173 = .ok (.aload_n 0, 1) := by decide +kernel
theorem dX0_meldTops_174 : decode cX0_meldTops 174 = .ok (.aload_n 0, 1) := by decide +kernel
theorem dX0_meldTops_175 : decode cX0_meldTops 175 = .ok (.getfield 16, 3) := by decide +kernel
theorem dX0_meldTops_178 : decode cX0_meldTops 178 = .ok (.iload 8, 2) := by decide +kernel
theorem dX0_meldTops_180 : decode cX0_meldTops 180 = .ok (.iaload, 1) := by decide +kernel
theorem dX0_meldTops_181 : decode cX0_meldTops 181 = .ok (.invokevirtual 77, 3) := by decide +kernel
theorem dX0_meldTops_184 : decode cX0_meldTops 184 = .ok (.iconst 1, 1) := by decide +kernel
theorem dX0_meldTops_185 : decode cX0_meldTops 185 = .ok (.iadd, 1) := by decide +kernel
theorem dX0_meldTops_186 : decode cX0_meldTops 186 = .ok (.iastore, 1) := by decide +kernel
theorem dX0_meldTops_187 : decode cX0_meldTops 187 = .ok (.iload 8, 2) := by decide +kernel
theorem dX0_meldTops_189 : decode cX0_meldTops 189 = .ok (.istore 6, 2) := by decide +kernel
theorem dX0_meldTops_191 : decode cX0_meldTops 191 = .ok (.iinc 7 (-1), 3) := by decide +kernel
theorem dX0_meldTops_194 : decode cX0_meldTops 194 = .ok (.goto (-98), 3) := by decide +kernel
theorem dX0_meldTops_197 : decode cX0_meldTops 197 = .ok (.iload 6, 2) := by decide +kernel
theorem dX0_meldTops_199 : decode cX0_meldTops 199 = .ok (.ireturn, 1) := by decide +kernel
abbrev cX0_isBefore : ByteArray := prog_1_method_8_code
def yX0_isBefore : MethodName := ⟨RX0, "isBefore", "(II)Z"⟩
theorem dX0_isBefore_0 : decode cX0_isBefore 0 = .ok (.aload_n 0, 1) := by decide +kernel
theorem dX0_isBefore_1 : decode cX0_isBefore 1 = .ok (.getfield 7, 3) := by decide +kernel
theorem dX0_isBefore_4 : decode cX0_isBefore 4 = .ok (.iload_n 1, 1) := by decide +kernel
theorem dX0_isBefore_5 : decode cX0_isBefore 5 = .ok (.iaload, 1) := by decide +kernel
theorem dX0_isBefore_6 : decode cX0_isBefore 6 = .ok (.aload_n 0, 1) := by decide +kernel
theorem dX0_isBefore_7 : decode cX0_isBefore 7 = .ok (.getfield 7, 3) := by decide +kernel
theorem dX0_isBefore_10 : decode cX0_isBefore 10 = .ok (.iload_n 2, 1) := by decide +kernel
theorem dX0_isBefore_11 : decode cX0_isBefore 11 = .ok (.iaload, 1) := by decide +kernel
theorem dX0_isBefore_12 : decode cX0_isBefore 12 = .ok (.if_icmp .lt 23, 3) := by decide +kernel
theorem dX0_isBefore_15 : decode cX0_isBefore 15 = .ok (.aload_n 0, 1) := by decide +kernel
theorem dX0_isBefore_16 : decode cX0_isBefore 16 = .ok (.getfield 7, 3) := by decide +kernel
theorem dX0_isBefore_19 : decode cX0_isBefore 19 = .ok (.iload_n 1, 1) := by decide +kernel
theorem dX0_isBefore_20 : decode cX0_isBefore 20 = .ok (.iaload, 1) := by decide +kernel
theorem dX0_isBefore_21 : decode cX0_isBefore 21 = .ok (.aload_n 0, 1) := by decide +kernel
theorem dX0_isBefore_22 : decode cX0_isBefore 22 = .ok (.getfield 7, 3) := by decide +kernel
theorem dX0_isBefore_25 : decode cX0_isBefore 25 = .ok (.iload_n 2, 1) := by decide +kernel
theorem dX0_isBefore_26 : decode cX0_isBefore 26 = .ok (.iaload, 1) := by decide +kernel
theorem dX0_isBefore_27 : decode cX0_isBefore 27 = .ok (.if_icmp .ne 12, 3) := by decide +kernel
theorem dX0_isBefore_30 : decode cX0_isBefore 30 = .ok (.iload_n 1, 1) := by decide +kernel
theorem dX0_isBefore_31 : decode cX0_isBefore 31 = .ok (.iload_n 2, 1) := by decide +kernel
theorem dX0_isBefore_32 : decode cX0_isBefore 32 = .ok (.if_icmp .ge 7, 3) := by decide +kernel
theorem dX0_isBefore_35 : decode cX0_isBefore 35 = .ok (.iconst 1, 1) := by decide +kernel
theorem dX0_isBefore_36 : decode cX0_isBefore 36 = .ok (.goto 4, 3) := by decide +kernel
theorem dX0_isBefore_39 : decode cX0_isBefore 39 = .ok (.iconst 0, 1) := by decide +kernel
theorem dX0_isBefore_40 : decode cX0_isBefore 40 = .ok (.ireturn, 1) := by decide +kernel
abbrev cX0_rankOf : ByteArray := prog_1_method_9_code
def yX0_rankOf : MethodName := ⟨RX0, "rankOf", "(I)I"⟩
theorem dX0_rankOf_0 : decode cX0_rankOf 0 = .ok (.iload_n 1, 1) := by decide +kernel
theorem dX0_rankOf_1 : decode cX0_rankOf 1 = .ok (.ifCond .ge 7, 3) := by decide +kernel
theorem dX0_rankOf_4 : decode cX0_rankOf 4 = .ok (.iconst 0, 1) := by decide +kernel
theorem dX0_rankOf_5 : decode cX0_rankOf 5 = .ok (.goto 9, 3) := by decide +kernel
theorem dX0_rankOf_8 : decode cX0_rankOf 8 = .ok (.aload_n 0, 1) := by decide +kernel
theorem dX0_rankOf_9 : decode cX0_rankOf 9 = .ok (.getfield 19, 3) := by decide +kernel
theorem dX0_rankOf_12 : decode cX0_rankOf 12 = .ok (.iload_n 1, 1) := by decide +kernel
theorem dX0_rankOf_13 : decode cX0_rankOf 13 = .ok (.iaload, 1) := by decide +kernel
theorem dX0_rankOf_14 : decode cX0_rankOf 14 = .ok (.ireturn, 1) := by decide +kernel
abbrev cX0_delete : ByteArray := prog_1_method_17_code
def yX0_delete : MethodName := ⟨RX0, "delete", "(I)I"⟩
theorem dX0_delete_0 : decode cX0_delete 0 = .ok (.aload_n 0, 1) := by decide +kernel
theorem dX0_delete_1 : decode cX0_delete 1 = .ok (.iload_n 1, 1) := by decide +kernel
theorem dX0_delete_2 : decode cX0_delete 2 = .ok (.invokevirtual 102, 3) := by decide +kernel
theorem dX0_delete_5 : decode cX0_delete 5 = .ok (.ifCond .ne 5, 3) := by decide +kernel
theorem dX0_delete_8 : decode cX0_delete 8 = .ok (.iconst (-1), 1) := by decide +kernel
theorem dX0_delete_9 : decode cX0_delete 9 = .ok (.ireturn, 1) := by decide +kernel
theorem dX0_delete_10 : decode cX0_delete 10 = .ok (.aload_n 0, 1) := by decide +kernel
theorem dX0_delete_11 : decode cX0_delete 11 = .ok (.getfield 26, 3) := by decide +kernel
theorem dX0_delete_14 : decode cX0_delete 14 = .ok (.iload_n 1, 1) := by decide +kernel
theorem dX0_delete_15 : decode cX0_delete 15 = .ok (.iconst 1, 1) := by decide +kernel
theorem dX0_delete_16 : decode cX0_delete 16 = .ok (.bastore, 1) := by decide +kernel
theorem dX0_delete_17 : decode cX0_delete 17 = .ok (.aload_n 0, 1) := by decide +kernel
theorem dX0_delete_18 : decode cX0_delete 18 = .ok (.getfield 32, 3) := by decide +kernel
theorem dX0_delete_21 : decode cX0_delete 21 = .ok (.aload_n 0, 1) := by decide +kernel
theorem dX0_delete_22 : decode cX0_delete 22 = .ok (.iload_n 1, 1) := by decide +kernel
theorem dX0_delete_23 : decode cX0_delete 23 = .ok (.invokevirtual 105, 3) := by decide +kernel
theorem dX0_delete_26 : decode cX0_delete 26 = .ok (.dup2, 1) := by decide +kernel
theorem dX0_delete_27 : decode cX0_delete 27 = .ok (.iaload, 1) := by decide +kernel
theorem dX0_delete_28 : decode cX0_delete 28 = .ok (.iconst 1, 1) := by decide +kernel
theorem dX0_delete_29 : decode cX0_delete 29 = .ok (.isub, 1) := by decide +kernel
theorem dX0_delete_30 : decode cX0_delete 30 = .ok (.iastore, 1) := by decide +kernel
theorem dX0_delete_31 : decode cX0_delete 31 = .ok (.iconst 0, 1) := by decide +kernel
theorem dX0_delete_32 : decode cX0_delete 32 = .ok (.ireturn, 1) := by decide +kernel
abbrev cX0_isLive : ByteArray := prog_1_method_4_code
def yX0_isLive : MethodName := ⟨RX0, "isLive", "(I)Z"⟩
theorem dX0_isLive_0 : decode cX0_isLive 0 = .ok (.iload_n 1, 1) := by decide +kernel
theorem dX0_isLive_1 : decode cX0_isLive 1 = .ok (.ifCond .lt 31, 3) := by decide +kernel
theorem dX0_isLive_4 : decode cX0_isLive 4 = .ok (.iload_n 1, 1) := by decide +kernel
theorem dX0_isLive_5 : decode cX0_isLive 5 = .ok (.bipush 60, 2) := by decide +kernel
theorem dX0_isLive_7 : decode cX0_isLive 7 = .ok (.if_icmp .ge 25, 3) := by decide +kernel
theorem dX0_isLive_10 : decode cX0_isLive 10 = .ok (.aload_n 0, 1) := by decide +kernel
theorem dX0_isLive_11 : decode cX0_isLive 11 = .ok (.getfield 22, 3) := by decide +kernel
theorem dX0_isLive_14 : decode cX0_isLive 14 = .ok (.iload_n 1, 1) := by decide +kernel
theorem dX0_isLive_15 : decode cX0_isLive 15 = .ok (.baload, 1) := by decide +kernel
theorem dX0_isLive_16 : decode cX0_isLive 16 = .ok (.ifCond .eq 16, 3) := by decide +kernel
theorem dX0_isLive_19 : decode cX0_isLive 19 = .ok (.aload_n 0, 1) := by decide +kernel
theorem dX0_isLive_20 : decode cX0_isLive 20 = .ok (.getfield 26, 3) := by decide +kernel
theorem dX0_isLive_23 : decode cX0_isLive 23 = .ok (.iload_n 1, 1) := by decide +kernel
theorem dX0_isLive_24 : decode cX0_isLive 24 = .ok (.baload, 1) := by decide +kernel
theorem dX0_isLive_25 : decode cX0_isLive 25 = .ok (.ifCond .ne 7, 3) := by decide +kernel
theorem dX0_isLive_28 : decode cX0_isLive 28 = .ok (.iconst 1, 1) := by decide +kernel
theorem dX0_isLive_29 : decode cX0_isLive 29 = .ok (.goto 4, 3) := by decide +kernel
theorem dX0_isLive_32 : decode cX0_isLive 32 = .ok (.iconst 0, 1) := by decide +kernel
theorem dX0_isLive_33 : decode cX0_isLive 33 = .ok (.ireturn, 1) := by decide +kernel
abbrev cX0_ownerOf : ByteArray := prog_1_method_7_code
def yX0_ownerOf : MethodName := ⟨RX0, "ownerOf", "(I)I"⟩
theorem dX0_ownerOf_0 : decode cX0_ownerOf 0 = .ok (.aload_n 0, 1) := by decide +kernel
theorem dX0_ownerOf_1 : decode cX0_ownerOf 1 = .ok (.getfield 35, 3) := by decide +kernel
theorem dX0_ownerOf_4 : decode cX0_ownerOf 4 = .ok (.iload_n 1, 1) := by decide +kernel
theorem dX0_ownerOf_5 : decode cX0_ownerOf 5 = .ok (.iaload, 1) := by decide +kernel
theorem dX0_ownerOf_6 : decode cX0_ownerOf 6 = .ok (.istore_n 2, 1) := by decide +kernel
theorem dX0_ownerOf_7 : decode cX0_ownerOf 7 = .ok (.aload_n 0, 1) := by decide +kernel
theorem dX0_ownerOf_8 : decode cX0_ownerOf 8 = .ok (.getfield 38, 3) := by decide +kernel
theorem dX0_ownerOf_11 : decode cX0_ownerOf 11 = .ok (.iload_n 2, 1) := by decide +kernel
theorem dX0_ownerOf_12 : decode cX0_ownerOf 12 = .ok (.iaload, 1) := by decide +kernel
theorem dX0_ownerOf_13 : decode cX0_ownerOf 13 = .ok (.iload_n 2, 1) := by decide +kernel
theorem dX0_ownerOf_14 : decode cX0_ownerOf 14 = .ok (.if_icmp .eq 30, 3) := by decide +kernel
theorem dX0_ownerOf_17 : decode cX0_ownerOf 17 = .ok (.aload_n 0, 1) := by decide +kernel
theorem dX0_ownerOf_18 : decode cX0_ownerOf 18 = .ok (.getfield 38, 3) := by decide +kernel
theorem dX0_ownerOf_21 : decode cX0_ownerOf 21 = .ok (.iload_n 2, 1) := by decide +kernel
theorem dX0_ownerOf_22 : decode cX0_ownerOf 22 = .ok (.aload_n 0, 1) := by decide +kernel
theorem dX0_ownerOf_23 : decode cX0_ownerOf 23 = .ok (.getfield 38, 3) := by decide +kernel
theorem dX0_ownerOf_26 : decode cX0_ownerOf 26 = .ok (.aload_n 0, 1) := by decide +kernel
theorem dX0_ownerOf_27 : decode cX0_ownerOf 27 = .ok (.getfield 38, 3) := by decide +kernel
theorem dX0_ownerOf_30 : decode cX0_ownerOf 30 = .ok (.iload_n 2, 1) := by decide +kernel
theorem dX0_ownerOf_31 : decode cX0_ownerOf 31 = .ok (.iaload, 1) := by decide +kernel
theorem dX0_ownerOf_32 : decode cX0_ownerOf 32 = .ok (.iaload, 1) := by decide +kernel
theorem dX0_ownerOf_33 : decode cX0_ownerOf 33 = .ok (.iastore, 1) := by decide +kernel
theorem dX0_ownerOf_34 : decode cX0_ownerOf 34 = .ok (.aload_n 0, 1) := by decide +kernel
theorem dX0_ownerOf_35 : decode cX0_ownerOf 35 = .ok (.getfield 38, 3) := by decide +kernel
theorem dX0_ownerOf_38 : decode cX0_ownerOf 38 = .ok (.iload_n 2, 1) := by decide +kernel
theorem dX0_ownerOf_39 : decode cX0_ownerOf 39 = .ok (.iaload, 1) := by decide +kernel
theorem dX0_ownerOf_40 : decode cX0_ownerOf 40 = .ok (.istore_n 2, 1) := by decide +kernel
theorem dX0_ownerOf_41 : decode cX0_ownerOf 41 = .ok (.goto (-34), 3) := by decide +kernel
theorem dX0_ownerOf_44 : decode cX0_ownerOf 44 = .ok (.aload_n 0, 1) := by decide +kernel
theorem dX0_ownerOf_45 : decode cX0_ownerOf 45 = .ok (.getfield 41, 3) := by decide +kernel
theorem dX0_ownerOf_48 : decode cX0_ownerOf 48 = .ok (.iload_n 2, 1) := by decide +kernel
theorem dX0_ownerOf_49 : decode cX0_ownerOf 49 = .ok (.iaload, 1) := by decide +kernel
theorem dX0_ownerOf_50 : decode cX0_ownerOf 50 = .ok (.ireturn, 1) := by decide +kernel
abbrev cX0_findMin : ByteArray := prog_1_method_18_code
def yX0_findMin : MethodName := ⟨RX0, "findMin", "(I)I"⟩
theorem dX0_findMin_0 : decode cX0_findMin 0 = .ok (.aload_n 0, 1) := by decide +kernel
theorem dX0_findMin_1 : decode cX0_findMin 1 = .ok (.iload_n 1, 1) := by decide +kernel
theorem dX0_findMin_2 : decode cX0_findMin 2 = .ok (.invokevirtual 95, 3) := by decide +kernel
theorem dX0_findMin_5 : decode cX0_findMin 5 = .ok (.ifCond .ne 5, 3) := by decide +kernel
theorem dX0_findMin_8 : decode cX0_findMin 8 = .ok (.iconst (-1), 1) := by decide +kernel
theorem dX0_findMin_9 : decode cX0_findMin 9 = .ok (.ireturn, 1) := by decide +kernel
theorem dX0_findMin_10 : decode cX0_findMin 10 = .ok (.aload_n 0, 1) := by decide +kernel
theorem dX0_findMin_11 : decode cX0_findMin 11 = .ok (.iload_n 1, 1) := by decide +kernel
theorem dX0_findMin_12 : decode cX0_findMin 12 = .ok (.invokevirtual 108, 3) := by decide +kernel
theorem dX0_findMin_15 : decode cX0_findMin 15 = .ok (.aload_n 0, 1) := by decide +kernel
theorem dX0_findMin_16 : decode cX0_findMin 16 = .ok (.getfield 29, 3) := by decide +kernel
theorem dX0_findMin_19 : decode cX0_findMin 19 = .ok (.iload_n 1, 1) := by decide +kernel
theorem dX0_findMin_20 : decode cX0_findMin 20 = .ok (.iaload, 1) := by decide +kernel
theorem dX0_findMin_21 : decode cX0_findMin 21 = .ok (.ireturn, 1) := by decide +kernel
end
section
set_option maxRecDepth 100000
abbrev cX0_purgeTop : ByteArray := prog_1_method_14_code
def yX0_purgeTop : MethodName := ⟨RX0, "purgeTop", "(I)V"⟩
theorem dX0_purgeTop_0 : decode cX0_purgeTop 0 = .ok (.aload_n 0, 1) := by decide +kernel
theorem dX0_purgeTop_1 : decode cX0_purgeTop 1 = .ok (.getfield 29, 3) := by decide +kernel
theorem dX0_purgeTop_4 : decode cX0_purgeTop 4 = .ok (.iload_n 1, 1) := by decide +kernel
theorem dX0_purgeTop_5 : decode cX0_purgeTop 5 = .ok (.iaload, 1) := by decide +kernel
theorem dX0_purgeTop_6 : decode cX0_purgeTop 6 = .ok (.ifCond .lt 34, 3) := by decide +kernel
theorem dX0_purgeTop_9 : decode cX0_purgeTop 9 = .ok (.aload_n 0, 1) := by decide +kernel
theorem dX0_purgeTop_10 : decode cX0_purgeTop 10 = .ok (.getfield 26, 3) := by decide +kernel
theorem dX0_purgeTop_13 : decode cX0_purgeTop 13 = .ok (.aload_n 0, 1) := by decide +kernel
theorem dX0_purgeTop_14 : decode cX0_purgeTop 14 = .ok (.getfield 29, 3) := by decide +kernel
theorem dX0_purgeTop_17 : decode cX0_purgeTop 17 = .ok (.iload_n 1, 1) := by decide +kernel
theorem dX0_purgeTop_18 : decode cX0_purgeTop 18 = .ok (.iaload, 1) := by decide +kernel
theorem dX0_purgeTop_19 : decode cX0_purgeTop 19 = .ok (.baload, 1) := by decide +kernel
theorem dX0_purgeTop_20 : decode cX0_purgeTop 20 = .ok (.ifCond .eq 20, 3) := by decide +kernel
theorem dX0_purgeTop_23 : decode cX0_purgeTop 23 = .ok (.aload_n 0, 1) := by decide +kernel
theorem dX0_purgeTop_24 : decode cX0_purgeTop 24 = .ok (.getfield 29, 3) := by decide +kernel
theorem dX0_purgeTop_27 : decode cX0_purgeTop 27 = .ok (.iload_n 1, 1) := by decide +kernel
theorem dX0_purgeTop_28 : decode cX0_purgeTop 28 = .ok (.aload_n 0, 1) := by decide +kernel
theorem dX0_purgeTop_29 : decode cX0_purgeTop 29 = .ok (.aload_n 0, 1) := by decide +kernel
theorem dX0_purgeTop_30 : decode cX0_purgeTop 30 = .ok (.getfield 29, 3) := by decide +kernel
theorem dX0_purgeTop_33 : decode cX0_purgeTop 33 = .ok (.iload_n 1, 1) := by decide +kernel
theorem dX0_purgeTop_34 : decode cX0_purgeTop 34 = .ok (.iaload, 1) := by decide +kernel
theorem dX0_purgeTop_35 : decode cX0_purgeTop 35 = .ok (.iconst 0, 1) := by decide +kernel
theorem dX0_purgeTop_36 : decode cX0_purgeTop 36 = .ok (.invokevirtual 91, 3) := by decide +kernel
theorem dX0_purgeTop_39 : decode cX0_purgeTop 39 = .ok (.iastore, 1) := by decide +kernel
theorem dX0_purgeTop_40 : decode cX0_purgeTop 40 = .ok (.return_, 1) := by decide +kernel
abbrev cX0_deleteMin : ByteArray := prog_1_method_19_code
def yX0_deleteMin : MethodName := ⟨RX0, "deleteMin", "(I)I"⟩
theorem dX0_deleteMin_0 : decode cX0_deleteMin 0 = .ok (.aload_n 0, 1) := by decide +kernel
theorem dX0_deleteMin_1 : decode cX0_deleteMin 1 = .ok (.iload_n 1, 1) := by decide +kernel
theorem dX0_deleteMin_2 : decode cX0_deleteMin 2 = .ok (.invokevirtual 111, 3) := by decide +kernel
theorem dX0_deleteMin_5 : decode cX0_deleteMin 5 = .ok (.istore_n 2, 1) := by decide +kernel
theorem dX0_deleteMin_6 : decode cX0_deleteMin 6 = .ok (.iload_n 2, 1) := by decide +kernel
theorem dX0_deleteMin_7 : decode cX0_deleteMin 7 = .ok (.ifCond .ge 5, 3) := by decide +kernel
theorem dX0_deleteMin_10 : decode cX0_deleteMin 10 = .ok (.iconst (-1), 1) := by decide +kernel
theorem dX0_deleteMin_11 : decode cX0_deleteMin 11 = .ok (.ireturn, 1) := by decide +kernel
theorem dX0_deleteMin_12 : decode cX0_deleteMin 12 = .ok (.aload_n 0, 1) := by decide +kernel
theorem dX0_deleteMin_13 : decode cX0_deleteMin 13 = .ok (.getfield 13, 3) := by decide +kernel
theorem dX0_deleteMin_16 : decode cX0_deleteMin 16 = .ok (.iload_n 2, 1) := by decide +kernel
theorem dX0_deleteMin_17 : decode cX0_deleteMin 17 = .ok (.iaload, 1) := by decide +kernel
theorem dX0_deleteMin_18 : decode cX0_deleteMin 18 = .ok (.istore_n 3, 1) := by decide +kernel
theorem dX0_deleteMin_19 : decode cX0_deleteMin 19 = .ok (.aload_n 0, 1) := by decide +kernel
theorem dX0_deleteMin_20 : decode cX0_deleteMin 20 = .ok (.getfield 16, 3) := by decide +kernel
theorem dX0_deleteMin_23 : decode cX0_deleteMin 23 = .ok (.iload_n 2, 1) := by decide +kernel
theorem dX0_deleteMin_24 : decode cX0_deleteMin 24 = .ok (.iaload, 1) := by decide +kernel
theorem dX0_deleteMin_25 : decode cX0_deleteMin 25 = .ok (.istore 4, 2) := by decide +kernel
theorem dX0_deleteMin_27 : decode cX0_deleteMin 27 = .ok (.aload_n 0, 1) := by decide +kernel
theorem dX0_deleteMin_28 : decode cX0_deleteMin 28 = .ok (.iload_n 2, 1) := by decide +kernel
theorem dX0_deleteMin_29 : decode cX0_deleteMin 29 = .ok (.invokevirtual 85, 3) := by decide +kernel
theorem dX0_deleteMin_32 : decode cX0_deleteMin 32 = .ok (.aload_n 0, 1) := by decide +kernel
theorem dX0_deleteMin_33 : decode cX0_deleteMin 33 = .ok (.getfield 32, 3) := by decide +kernel
theorem dX0_deleteMin_36 : decode cX0_deleteMin 36 = .ok (.iload_n 1, 1) := by decide +kernel
theorem dX0_deleteMin_37 : decode cX0_deleteMin 37 = .ok (.dup2, 1) := by decide +kernel
theorem dX0_deleteMin_38 : decode cX0_deleteMin 38 = .ok (.iaload, 1) := by decide +kernel
theorem dX0_deleteMin_39 : decode cX0_deleteMin 39 = .ok (.iconst 1, 1) := by decide +kernel
theorem dX0_deleteMin_40 : decode cX0_deleteMin 40 = .ok (.isub, 1) := by decide +kernel
theorem dX0_deleteMin_41 : decode cX0_deleteMin 41 = .ok (.iastore, 1) := by decide +kernel
theorem dX0_deleteMin_42 : decode cX0_deleteMin 42 = .ok (.aload_n 0, 1) := by decide +kernel
theorem dX0_deleteMin_43 : decode cX0_deleteMin 43 = .ok (.getfield 29, 3) := by decide +kernel
theorem dX0_deleteMin_46 : decode cX0_deleteMin 46 = .ok (.iload_n 1, 1) := by decide +kernel
theorem dX0_deleteMin_47 : decode cX0_deleteMin 47 = .ok (.aload_n 0, 1) := by decide +kernel
theorem dX0_deleteMin_48 : decode cX0_deleteMin 48 = .ok (.iload_n 3, 1) := by decide +kernel
theorem dX0_deleteMin_49 : decode cX0_deleteMin 49 = .ok (.iload 4, 2) := by decide +kernel
theorem dX0_deleteMin_51 : decode cX0_deleteMin 51 = .ok (.invokevirtual 81, 3) := by decide +kernel
theorem dX0_deleteMin_54 : decode cX0_deleteMin 54 = .ok (.iastore, 1) := by decide +kernel
theorem dX0_deleteMin_55 : decode cX0_deleteMin 55 = .ok (.iload_n 2, 1) := by decide +kernel
theorem dX0_deleteMin_56 : decode cX0_deleteMin 56 = .ok (.ireturn, 1) := by decide +kernel
abbrev cX0_meld : ByteArray := prog_1_method_20_code
def yX0_meld : MethodName := ⟨RX0, "meld", "(II)I"⟩
theorem dX0_meld_0 : decode cX0_meld 0 = .ok (.aload_n 0, 1) := by decide +kernel
theorem dX0_meld_1 : decode cX0_meld 1 = .ok (.iload_n 1, 1) := by decide +kernel
theorem dX0_meld_2 : decode cX0_meld 2 = .ok (.invokevirtual 95, 3) := by decide +kernel
theorem dX0_meld_5 : decode cX0_meld 5 = .ok (.ifCond .eq 16, 3) := by decide +kernel
theorem dX0_meld_8 : decode cX0_meld 8 = .ok (.aload_n 0, 1) := by decide +kernel
theorem dX0_meld_9 : decode cX0_meld 9 = .ok (.iload_n 2, 1) := by decide +kernel
theorem dX0_meld_10 : decode cX0_meld 10 = .ok (.invokevirtual 95, 3) := by decide +kernel
theorem dX0_meld_13 : decode cX0_meld 13 = .ok (.ifCond .eq 8, 3) := by decide +kernel
theorem dX0_meld_16 : decode cX0_meld 16 = .ok (.iload_n 1, 1) := by decide +kernel
theorem dX0_meld_17 : decode cX0_meld 17 = .ok (.iload_n 2, 1) := by decide +kernel
theorem dX0_meld_18 : decode cX0_meld 18 = .ok (.if_icmp .ne 5, 3) := by decide +kernel
theorem dX0_meld_21 : decode cX0_meld 21 = .ok (.iconst (-1), 1) := by decide +kernel
theorem dX0_meld_22 : decode cX0_meld 22 = .ok (.ireturn, 1) := by decide +kernel
theorem dX0_meld_23 : decode cX0_meld 23 = .ok (.aload_n 0, 1) := by decide +kernel
theorem dX0_meld_24 : decode cX0_meld 24 = .ok (.getfield 29, 3) := by decide +kernel
theorem dX0_meld_27 : decode cX0_meld 27 = .ok (.iload_n 1, 1) := by decide +kernel
theorem dX0_meld_28 : decode cX0_meld 28 = .ok (.aload_n 0, 1) := by decide +kernel
theorem dX0_meld_29 : decode cX0_meld 29 = .ok (.aload_n 0, 1) := by decide +kernel
theorem dX0_meld_30 : decode cX0_meld 30 = .ok (.getfield 29, 3) := by decide +kernel
theorem dX0_meld_33 : decode cX0_meld 33 = .ok (.iload_n 1, 1) := by decide +kernel
theorem dX0_meld_34 : decode cX0_meld 34 = .ok (.iaload, 1) := by decide +kernel
theorem dX0_meld_35 : decode cX0_meld 35 = .ok (.aload_n 0, 1) := by decide +kernel
theorem dX0_meld_36 : decode cX0_meld 36 = .ok (.getfield 29, 3) := by decide +kernel
theorem dX0_meld_39 : decode cX0_meld 39 = .ok (.iload_n 2, 1) := by decide +kernel
theorem dX0_meld_40 : decode cX0_meld 40 = .ok (.iaload, 1) := by decide +kernel
theorem dX0_meld_41 : decode cX0_meld 41 = .ok (.invokevirtual 81, 3) := by decide +kernel
theorem dX0_meld_44 : decode cX0_meld 44 = .ok (.iastore, 1) := by decide +kernel
theorem dX0_meld_45 : decode cX0_meld 45 = .ok (.aload_n 0, 1) := by decide +kernel
theorem dX0_meld_46 : decode cX0_meld 46 = .ok (.getfield 29, 3) := by decide +kernel
theorem dX0_meld_49 : decode cX0_meld 49 = .ok (.iload_n 2, 1) := by decide +kernel
theorem dX0_meld_50 : decode cX0_meld 50 = .ok (.iconst (-1), 1) := by decide +kernel
theorem dX0_meld_51 : decode cX0_meld 51 = .ok (.iastore, 1) := by decide +kernel
theorem dX0_meld_52 : decode cX0_meld 52 = .ok (.aload_n 0, 1) := by decide +kernel
theorem dX0_meld_53 : decode cX0_meld 53 = .ok (.getfield 32, 3) := by decide +kernel
theorem dX0_meld_56 : decode cX0_meld 56 = .ok (.iload_n 1, 1) := by decide +kernel
theorem dX0_meld_57 : decode cX0_meld 57 = .ok (.dup2, 1) := by decide +kernel
theorem dX0_meld_58 : decode cX0_meld 58 = .ok (.iaload, 1) := by decide +kernel
theorem dX0_meld_59 : decode cX0_meld 59 = .ok (.aload_n 0, 1) := by decide +kernel
theorem dX0_meld_60 : decode cX0_meld 60 = .ok (.getfield 32, 3) := by decide +kernel
theorem dX0_meld_63 : decode cX0_meld 63 = .ok (.iload_n 2, 1) := by decide +kernel
theorem dX0_meld_64 : decode cX0_meld 64 = .ok (.iaload, 1) := by decide +kernel
theorem dX0_meld_65 : decode cX0_meld 65 = .ok (.iadd, 1) := by decide +kernel
theorem dX0_meld_66 : decode cX0_meld 66 = .ok (.iastore, 1) := by decide +kernel
theorem dX0_meld_67 : decode cX0_meld 67 = .ok (.aload_n 0, 1) := by decide +kernel
theorem dX0_meld_68 : decode cX0_meld 68 = .ok (.getfield 32, 3) := by decide +kernel
theorem dX0_meld_71 : decode cX0_meld 71 = .ok (.iload_n 2, 1) := by decide +kernel
theorem dX0_meld_72 : decode cX0_meld 72 = .ok (.iconst 0, 1) := by decide +kernel
theorem dX0_meld_73 : decode cX0_meld 73 = .ok (.iastore, 1) := by decide +kernel
theorem dX0_meld_74 : decode cX0_meld 74 = .ok (.aload_n 0, 1) := by decide +kernel
theorem dX0_meld_75 : decode cX0_meld 75 = .ok (.getfield 38, 3) := by decide +kernel
theorem dX0_meld_78 : decode cX0_meld 78 = .ok (.aload_n 0, 1) := by decide +kernel
theorem dX0_meld_79 : decode cX0_meld 79 = .ok (.getfield 44, 3) := by decide +kernel
theorem dX0_meld_82 : decode cX0_meld 82 = .ok (.iload_n 2, 1) := by decide +kernel
theorem dX0_meld_83 : decode cX0_meld 83 = .ok (.iaload, 1) := by decide +kernel
theorem dX0_meld_84 : decode cX0_meld 84 = .ok (.aload_n 0, 1) := by decide +kernel
theorem dX0_meld_85 : decode cX0_meld 85 = .ok (.getfield 44, 3) := by decide +kernel
theorem dX0_meld_88 : decode cX0_meld 88 = .ok (.iload_n 1, 1) := by decide +kernel
theorem dX0_meld_89 : decode cX0_meld 89 = .ok (.iaload, 1) := by decide +kernel
theorem dX0_meld_90 : decode cX0_meld 90 = .ok (.iastore, 1) := by decide +kernel
theorem dX0_meld_91 : decode cX0_meld 91 = .ok (.aload_n 0, 1) := by decide +kernel
theorem dX0_meld_92 : decode cX0_meld 92 = .ok (.iload_n 2, 1) := by decide +kernel
theorem dX0_meld_93 : decode cX0_meld 93 = .ok (.invokevirtual 69, 3) := by decide +kernel
theorem dX0_meld_96 : decode cX0_meld 96 = .ok (.iconst 0, 1) := by decide +kernel
theorem dX0_meld_97 : decode cX0_meld 97 = .ok (.ireturn, 1) := by decide +kernel
abbrev cX0_keyOf : ByteArray := prog_1_method_21_code
def yX0_keyOf : MethodName := ⟨RX0, "keyOf", "(I)I"⟩
theorem dX0_keyOf_0 : decode cX0_keyOf 0 = .ok (.aload_n 0, 1) := by decide +kernel
theorem dX0_keyOf_1 : decode cX0_keyOf 1 = .ok (.iload_n 1, 1) := by decide +kernel
theorem dX0_keyOf_2 : decode cX0_keyOf 2 = .ok (.invokevirtual 102, 3) := by decide +kernel
theorem dX0_keyOf_5 : decode cX0_keyOf 5 = .ok (.ifCond .eq 12, 3) := by decide +kernel
theorem dX0_keyOf_8 : decode cX0_keyOf 8 = .ok (.aload_n 0, 1) := by decide +kernel
theorem dX0_keyOf_9 : decode cX0_keyOf 9 = .ok (.getfield 7, 3) := by decide +kernel
theorem dX0_keyOf_12 : decode cX0_keyOf 12 = .ok (.iload_n 1, 1) := by decide +kernel
theorem dX0_keyOf_13 : decode cX0_keyOf 13 = .ok (.iaload, 1) := by decide +kernel
theorem dX0_keyOf_14 : decode cX0_keyOf 14 = .ok (.goto 4, 3) := by decide +kernel
theorem dX0_keyOf_17 : decode cX0_keyOf 17 = .ok (.iconst 0, 1) := by decide +kernel
theorem dX0_keyOf_18 : decode cX0_keyOf 18 = .ok (.ireturn, 1) := by decide +kernel
abbrev cX0_size : ByteArray := prog_1_method_22_code
def yX0_size : MethodName := ⟨RX0, "size", "(I)I"⟩
theorem dX0_size_0 : decode cX0_size 0 = .ok (.aload_n 0, 1) := by decide +kernel
theorem dX0_size_1 : decode cX0_size 1 = .ok (.iload_n 1, 1) := by decide +kernel
theorem dX0_size_2 : decode cX0_size 2 = .ok (.invokevirtual 95, 3) := by decide +kernel
theorem dX0_size_5 : decode cX0_size 5 = .ok (.ifCond .eq 12, 3) := by decide +kernel
theorem dX0_size_8 : decode cX0_size 8 = .ok (.aload_n 0, 1) := by decide +kernel
theorem dX0_size_9 : decode cX0_size 9 = .ok (.getfield 32, 3) := by decide +kernel
theorem dX0_size_12 : decode cX0_size 12 = .ok (.iload_n 1, 1) := by decide +kernel
theorem dX0_size_13 : decode cX0_size 13 = .ok (.iaload, 1) := by decide +kernel
theorem dX0_size_14 : decode cX0_size 14 = .ok (.goto 4, 3) := by decide +kernel
theorem dX0_size_17 : decode cX0_size 17 = .ok (.iconst (-1), 1) := by decide +kernel
theorem dX0_size_18 : decode cX0_size 18 = .ok (.ireturn, 1) := by decide +kernel
abbrev cX0_cellsFree : ByteArray := prog_1_method_23_code
def yX0_cellsFree : MethodName := ⟨RX0, "cellsFree", "()I"⟩
theorem dX0_cellsFree_0 : decode cX0_cellsFree 0 = .ok (.aload_n 0, 1) := by decide +kernel
theorem dX0_cellsFree_1 : decode cX0_cellsFree 1 = .ok (.getfield 59, 3) := by decide +kernel
theorem dX0_cellsFree_4 : decode cX0_cellsFree 4 = .ok (.ireturn, 1) := by decide +kernel
abbrev cX0_node : ByteArray := prog_1_method_24_code
def yX0_node : MethodName := ⟨RX0, "node", "(II)I"⟩
theorem dX0_node_0 : decode cX0_node 0 = .ok (.iload_n 1, 1) := by decide +kernel
theorem dX0_node_1 : decode cX0_node 1 = .ok (.ifCond .lt 27, 3) := by decide +kernel
theorem dX0_node_4 : decode cX0_node 4 = .ok (.iload_n 1, 1) := by decide +kernel
theorem dX0_node_5 : decode cX0_node 5 = .ok (.bipush 60, 2) := by decide +kernel
theorem dX0_node_7 : decode cX0_node 7 = .ok (.if_icmp .ge 21, 3) := by decide +kernel
theorem dX0_node_10 : decode cX0_node 10 = .ok (.aload_n 0, 1) := by decide +kernel
theorem dX0_node_11 : decode cX0_node 11 = .ok (.getfield 22, 3) := by decide +kernel
theorem dX0_node_14 : decode cX0_node 14 = .ok (.iload_n 1, 1) := by decide +kernel
theorem dX0_node_15 : decode cX0_node 15 = .ok (.baload, 1) := by decide +kernel
theorem dX0_node_16 : decode cX0_node 16 = .ok (.ifCond .eq 12, 3) := by decide +kernel
theorem dX0_node_19 : decode cX0_node 19 = .ok (.iload_n 2, 1) := by decide +kernel
theorem dX0_node_20 : decode cX0_node 20 = .ok (.ifCond .lt 8, 3) := by decide +kernel
theorem dX0_node_23 : decode cX0_node 23 = .ok (.iload_n 2, 1) := by decide +kernel
theorem dX0_node_24 : decode cX0_node 24 = .ok (.iconst 4, 1) := by decide +kernel
theorem dX0_node_25 : decode cX0_node 25 = .ok (.if_icmp .le 5, 3) := by decide +kernel
theorem dX0_node_28 : decode cX0_node 28 = .ok (.iconst (-1), 1) := by decide +kernel
theorem dX0_node_29 : decode cX0_node 29 = .ok (.ireturn, 1) := by decide +kernel
theorem dX0_node_30 : decode cX0_node 30 = .ok (.iload_n 2, 1) := by decide +kernel
theorem dX0_node_31 : decode cX0_node 31 = .ok (.ifCond .ne 10, 3) := by decide +kernel
theorem dX0_node_34 : decode cX0_node 34 = .ok (.aload_n 0, 1) := by decide +kernel
theorem dX0_node_35 : decode cX0_node 35 = .ok (.getfield 13, 3) := by decide +kernel
theorem dX0_node_38 : decode cX0_node 38 = .ok (.iload_n 1, 1) := by decide +kernel
theorem dX0_node_39 : decode cX0_node 39 = .ok (.iaload, 1) := by decide +kernel
theorem dX0_node_40 : decode cX0_node 40 = .ok (.ireturn, 1) := by decide +kernel
theorem dX0_node_41 : decode cX0_node 41 = .ok (.iload_n 2, 1) := by decide +kernel
theorem dX0_node_42 : decode cX0_node 42 = .ok (.iconst 1, 1) := by decide +kernel
theorem dX0_node_43 : decode cX0_node 43 = .ok (.if_icmp .ne 10, 3) := by decide +kernel
theorem dX0_node_46 : decode cX0_node 46 = .ok (.aload_n 0, 1) := by decide +kernel
theorem dX0_node_47 : decode cX0_node 47 = .ok (.getfield 16, 3) := by decide +kernel
theorem dX0_node_50 : decode cX0_node 50 = .ok (.iload_n 1, 1) := by decide +kernel
theorem dX0_node_51 : decode cX0_node 51 = .ok (.iaload, 1) := by decide +kernel
theorem dX0_node_52 : decode cX0_node 52 = .ok (.ireturn, 1) := by decide +kernel
theorem dX0_node_53 : decode cX0_node 53 = .ok (.iload_n 2, 1) := by decide +kernel
theorem dX0_node_54 : decode cX0_node 54 = .ok (.iconst 2, 1) := by decide +kernel
theorem dX0_node_55 : decode cX0_node 55 = .ok (.if_icmp .ne 10, 3) := by decide +kernel
theorem dX0_node_58 : decode cX0_node 58 = .ok (.aload_n 0, 1) := by decide +kernel
theorem dX0_node_59 : decode cX0_node 59 = .ok (.getfield 19, 3) := by decide +kernel
theorem dX0_node_62 : decode cX0_node 62 = .ok (.iload_n 1, 1) := by decide +kernel
theorem dX0_node_63 : decode cX0_node 63 = .ok (.iaload, 1) := by decide +kernel
theorem dX0_node_64 : decode cX0_node 64 = .ok (.ireturn, 1) := by decide +kernel
theorem dX0_node_65 : decode cX0_node 65 = .ok (.iload_n 2, 1) := by decide +kernel
theorem dX0_node_66 : decode cX0_node 66 = .ok (.iconst 3, 1) := by decide +kernel
theorem dX0_node_67 : decode cX0_node 67 = .ok (.if_icmp .ne 20, 3) := by decide +kernel
theorem dX0_node_70 : decode cX0_node 70 = .ok (.aload_n 0, 1) := by decide +kernel
theorem dX0_node_71 : decode cX0_node 71 = .ok (.getfield 26, 3) := by decide +kernel
theorem dX0_node_74 : decode cX0_node 74 = .ok (.iload_n 1, 1) := by decide +kernel
theorem dX0_node_75 : decode cX0_node 75 = .ok (.baload, 1) := by decide +kernel
theorem dX0_node_76 : decode cX0_node 76 = .ok (.ifCond .eq 7, 3) := by decide +kernel
theorem dX0_node_79 : decode cX0_node 79 = .ok (.iconst 0, 1) := by decide +kernel
theorem dX0_node_80 : decode cX0_node 80 = .ok (.goto 12, 3) := by decide +kernel
theorem dX0_node_83 : decode cX0_node 83 = .ok (.iconst 1, 1) := by decide +kernel
theorem dX0_node_84 : decode cX0_node 84 = .ok (.goto 8, 3) := by decide +kernel
theorem dX0_node_87 : decode cX0_node 87 = .ok (.aload_n 0, 1) := by decide +kernel
theorem dX0_node_88 : decode cX0_node 88 = .ok (.iload_n 1, 1) := by decide +kernel
theorem dX0_node_89 : decode cX0_node 89 = .ok (.invokevirtual 105, 3) := by decide +kernel
theorem dX0_node_92 : decode cX0_node 92 = .ok (.ireturn, 1) := by decide +kernel
abbrev cX0_topOf : ByteArray := prog_1_method_25_code
def yX0_topOf : MethodName := ⟨RX0, "topOf", "(I)I"⟩
theorem dX0_topOf_0 : decode cX0_topOf 0 = .ok (.aload_n 0, 1) := by decide +kernel
theorem dX0_topOf_1 : decode cX0_topOf 1 = .ok (.iload_n 1, 1) := by decide +kernel
theorem dX0_topOf_2 : decode cX0_topOf 2 = .ok (.invokevirtual 95, 3) := by decide +kernel
theorem dX0_topOf_5 : decode cX0_topOf 5 = .ok (.ifCond .eq 12, 3) := by decide +kernel
theorem dX0_topOf_8 : decode cX0_topOf 8 = .ok (.aload_n 0, 1) := by decide +kernel
theorem dX0_topOf_9 : decode cX0_topOf 9 = .ok (.getfield 29, 3) := by decide +kernel
theorem dX0_topOf_12 : decode cX0_topOf 12 = .ok (.iload_n 1, 1) := by decide +kernel
theorem dX0_topOf_13 : decode cX0_topOf 13 = .ok (.iaload, 1) := by decide +kernel
theorem dX0_topOf_14 : decode cX0_topOf 14 = .ok (.goto 4, 3) := by decide +kernel
theorem dX0_topOf_17 : decode cX0_topOf 17 = .ok (.iconst (-1), 1) := by decide +kernel
theorem dX0_topOf_18 : decode cX0_topOf 18 = .ok (.ireturn, 1) := by decide +kernel
theorem q25 : (Jvm.Cond.initialized "LeftistHeaps") ∈ lw_all := lw_g (lw_at lw_m1 1 rfl) rfl
theorem q28 : (Jvm.Cond.instantiable "LeftistHeaps" (18 : Nat)) ∈ lw_all := lw_g (lw_at lw_m1 4 rfl) rfl
theorem q30 : (Jvm.Cond.instanceMethod ({ cls := "LeftistHeaps", name := "<init>", desc := "()V" } : Jvm.MethodName)) ∈ lw_all := lw_g (lw_at lw_m1 6 rfl) rfl
theorem q31 : (Jvm.Cond.code ({ cls := "LeftistHeaps", name := "<init>", desc := "()V" } : Jvm.MethodName) prog_1_method_1_code (1 : Nat) (Option.none : Option Jvm.ClassFile.FieldType)) ∈ lw_all := lw_g (lw_at lw_m1 7 rfl) rfl
theorem q32 : (Jvm.Cond.methodLink "LeftistHeaps" (1 : Nat) ({ cls := "java/lang/Object", name := "<init>", desc := "()V" } : Jvm.MethodName)) ∈ lw_all := lw_g (lw_at lw_m1 8 rfl) rfl
theorem q35 : (Jvm.Cond.methodLink "LeftistHeaps" (56 : Nat) ({ cls := "LeftistHeaps", name := "init", desc := "()V" } : Jvm.MethodName)) ∈ lw_all := lw_g (lw_at lw_m1 11 rfl) rfl
theorem q36 : (Jvm.Cond.instanceMethod ({ cls := "LeftistHeaps", name := "init", desc := "()V" } : Jvm.MethodName)) ∈ lw_all := lw_g (lw_at lw_m1 12 rfl) rfl
theorem q37 : (Jvm.Cond.selects "LeftistHeaps" ({ cls := "LeftistHeaps", name := "init", desc := "()V" } : Jvm.MethodName) ({ cls := "LeftistHeaps", name := "init", desc := "()V" } : Jvm.MethodName)) ∈ lw_all := lw_g (lw_at lw_m1 13 rfl) rfl
theorem q38 : (Jvm.Cond.code ({ cls := "LeftistHeaps", name := "init", desc := "()V" } : Jvm.MethodName) prog_1_method_2_code (2 : Nat) (Option.none : Option Jvm.ClassFile.FieldType)) ∈ lw_all := lw_g (lw_at lw_m1 14 rfl) rfl
theorem q39 : (Jvm.Cond.fieldLink "LeftistHeaps" (7 : Nat) "LeftistHeaps" "key" "[I") ∈ lw_all := lw_g (lw_at lw_m1 15 rfl) rfl
theorem q40 : (Jvm.Cond.fieldLink "LeftistHeaps" (13 : Nat) "LeftistHeaps" "left" "[I") ∈ lw_all := lw_g (lw_at lw_m1 16 rfl) rfl
theorem q41 : (Jvm.Cond.fieldLink "LeftistHeaps" (16 : Nat) "LeftistHeaps" "right" "[I") ∈ lw_all := lw_g (lw_at lw_m1 17 rfl) rfl
theorem q42 : (Jvm.Cond.fieldLink "LeftistHeaps" (19 : Nat) "LeftistHeaps" "rank" "[I") ∈ lw_all := lw_g (lw_at lw_m1 18 rfl) rfl
theorem q43 : (Jvm.Cond.fieldLink "LeftistHeaps" (22 : Nat) "LeftistHeaps" "used" "[Z") ∈ lw_all := lw_g (lw_at lw_m1 19 rfl) rfl
theorem q44 : (Jvm.Cond.fieldLink "LeftistHeaps" (26 : Nat) "LeftistHeaps" "dead" "[Z") ∈ lw_all := lw_g (lw_at lw_m1 20 rfl) rfl
theorem q45 : (Jvm.Cond.fieldLink "LeftistHeaps" (29 : Nat) "LeftistHeaps" "rootOf" "[I") ∈ lw_all := lw_g (lw_at lw_m1 21 rfl) rfl
theorem q46 : (Jvm.Cond.fieldLink "LeftistHeaps" (32 : Nat) "LeftistHeaps" "liveOf" "[I") ∈ lw_all := lw_g (lw_at lw_m1 22 rfl) rfl
theorem q47 : (Jvm.Cond.fieldLink "LeftistHeaps" (35 : Nat) "LeftistHeaps" "token" "[I") ∈ lw_all := lw_g (lw_at lw_m1 23 rfl) rfl
theorem q48 : (Jvm.Cond.fieldLink "LeftistHeaps" (38 : Nat) "LeftistHeaps" "leads" "[I") ∈ lw_all := lw_g (lw_at lw_m1 24 rfl) rfl
theorem q49 : (Jvm.Cond.fieldLink "LeftistHeaps" (41 : Nat) "LeftistHeaps" "heapOf" "[I") ∈ lw_all := lw_g (lw_at lw_m1 25 rfl) rfl
theorem q50 : (Jvm.Cond.fieldLink "LeftistHeaps" (44 : Nat) "LeftistHeaps" "tokenOf" "[I") ∈ lw_all := lw_g (lw_at lw_m1 26 rfl) rfl
theorem q51 : (Jvm.Cond.fieldLink "LeftistHeaps" (47 : Nat) "LeftistHeaps" "pile" "[I") ∈ lw_all := lw_g (lw_at lw_m1 27 rfl) rfl
theorem q52 : (Jvm.Cond.fieldLink "LeftistHeaps" (50 : Nat) "LeftistHeaps" "stack" "[I") ∈ lw_all := lw_g (lw_at lw_m1 28 rfl) rfl
theorem q53 : (Jvm.Cond.fieldLink "LeftistHeaps" (53 : Nat) "LeftistHeaps" "row" "[I") ∈ lw_all := lw_g (lw_at lw_m1 29 rfl) rfl
theorem q54 : (Jvm.Cond.fieldLink "LeftistHeaps" (59 : Nat) "LeftistHeaps" "free" "I") ∈ lw_all := lw_g (lw_at lw_m1 30 rfl) rfl
theorem q55 : (Jvm.Cond.fieldLink "LeftistHeaps" (63 : Nat) "LeftistHeaps" "nHeaps" "I") ∈ lw_all := lw_g (lw_at lw_m1 31 rfl) rfl
theorem q56 : (Jvm.Cond.fieldLink "LeftistHeaps" (66 : Nat) "LeftistHeaps" "tokens" "I") ∈ lw_all := lw_g (lw_at lw_m1 32 rfl) rfl
theorem q57 : (Jvm.Cond.laysFinal "LeftistHeaps" "LeftistHeaps" "key" "[I") ∈ lw_all := lw_g (lw_at lw_m1 33 rfl) rfl
theorem q58 : (Jvm.Cond.soleField "LeftistHeaps" "key") ∈ lw_all := lw_g (lw_at lw_m1 34 rfl) rfl
theorem q59 : (Jvm.Cond.laysFinal "LeftistHeaps" "LeftistHeaps" "left" "[I") ∈ lw_all := lw_g (lw_at lw_m1 35 rfl) rfl
theorem q60 : (Jvm.Cond.soleField "LeftistHeaps" "left") ∈ lw_all := lw_g (lw_at lw_m1 36 rfl) rfl
theorem q61 : (Jvm.Cond.laysFinal "LeftistHeaps" "LeftistHeaps" "right" "[I") ∈ lw_all := lw_g (lw_at lw_m1 37 rfl) rfl
theorem q62 : (Jvm.Cond.soleField "LeftistHeaps" "right") ∈ lw_all := lw_g (lw_at lw_m1 38 rfl) rfl
theorem q63 : (Jvm.Cond.laysFinal "LeftistHeaps" "LeftistHeaps" "rank" "[I") ∈ lw_all := lw_g (lw_at lw_m1 39 rfl) rfl
theorem q64 : (Jvm.Cond.soleField "LeftistHeaps" "rank") ∈ lw_all := lw_g (lw_at lw_m1 40 rfl) rfl
theorem q65 : (Jvm.Cond.laysFinal "LeftistHeaps" "LeftistHeaps" "used" "[Z") ∈ lw_all := lw_g (lw_at lw_m1 41 rfl) rfl
theorem q66 : (Jvm.Cond.soleField "LeftistHeaps" "used") ∈ lw_all := lw_g (lw_at lw_m1 42 rfl) rfl
theorem q67 : (Jvm.Cond.laysFinal "LeftistHeaps" "LeftistHeaps" "dead" "[Z") ∈ lw_all := lw_g (lw_at lw_m1 43 rfl) rfl
theorem q68 : (Jvm.Cond.soleField "LeftistHeaps" "dead") ∈ lw_all := lw_g (lw_at lw_m1 44 rfl) rfl
theorem q69 : (Jvm.Cond.laysFinal "LeftistHeaps" "LeftistHeaps" "rootOf" "[I") ∈ lw_all := lw_g (lw_at lw_m1 45 rfl) rfl
theorem q70 : (Jvm.Cond.soleField "LeftistHeaps" "rootOf") ∈ lw_all := lw_g (lw_at lw_m1 46 rfl) rfl
theorem q71 : (Jvm.Cond.laysFinal "LeftistHeaps" "LeftistHeaps" "liveOf" "[I") ∈ lw_all := lw_g (lw_at lw_m1 47 rfl) rfl
theorem q72 : (Jvm.Cond.soleField "LeftistHeaps" "liveOf") ∈ lw_all := lw_g (lw_at lw_m1 48 rfl) rfl
theorem q73 : (Jvm.Cond.laysFinal "LeftistHeaps" "LeftistHeaps" "token" "[I") ∈ lw_all := lw_g (lw_at lw_m1 49 rfl) rfl
theorem q74 : (Jvm.Cond.soleField "LeftistHeaps" "token") ∈ lw_all := lw_g (lw_at lw_m1 50 rfl) rfl
theorem q75 : (Jvm.Cond.laysFinal "LeftistHeaps" "LeftistHeaps" "leads" "[I") ∈ lw_all := lw_g (lw_at lw_m1 51 rfl) rfl
theorem q76 : (Jvm.Cond.soleField "LeftistHeaps" "leads") ∈ lw_all := lw_g (lw_at lw_m1 52 rfl) rfl
theorem q77 : (Jvm.Cond.laysFinal "LeftistHeaps" "LeftistHeaps" "heapOf" "[I") ∈ lw_all := lw_g (lw_at lw_m1 53 rfl) rfl
theorem q78 : (Jvm.Cond.soleField "LeftistHeaps" "heapOf") ∈ lw_all := lw_g (lw_at lw_m1 54 rfl) rfl
theorem q79 : (Jvm.Cond.laysFinal "LeftistHeaps" "LeftistHeaps" "tokenOf" "[I") ∈ lw_all := lw_g (lw_at lw_m1 55 rfl) rfl
theorem q80 : (Jvm.Cond.soleField "LeftistHeaps" "tokenOf") ∈ lw_all := lw_g (lw_at lw_m1 56 rfl) rfl
theorem q81 : (Jvm.Cond.laysFinal "LeftistHeaps" "LeftistHeaps" "pile" "[I") ∈ lw_all := lw_g (lw_at lw_m1 57 rfl) rfl
theorem q82 : (Jvm.Cond.soleField "LeftistHeaps" "pile") ∈ lw_all := lw_g (lw_at lw_m1 58 rfl) rfl
theorem q83 : (Jvm.Cond.laysFinal "LeftistHeaps" "LeftistHeaps" "stack" "[I") ∈ lw_all := lw_g (lw_at lw_m1 59 rfl) rfl
theorem q84 : (Jvm.Cond.soleField "LeftistHeaps" "stack") ∈ lw_all := lw_g (lw_at lw_m1 60 rfl) rfl
theorem q85 : (Jvm.Cond.laysFinal "LeftistHeaps" "LeftistHeaps" "row" "[I") ∈ lw_all := lw_g (lw_at lw_m1 61 rfl) rfl
theorem q86 : (Jvm.Cond.soleField "LeftistHeaps" "row") ∈ lw_all := lw_g (lw_at lw_m1 62 rfl) rfl
theorem q87 : (Jvm.Cond.lays "LeftistHeaps" "LeftistHeaps" "free" "I") ∈ lw_all := lw_g (lw_at lw_m1 63 rfl) rfl
theorem q88 : (Jvm.Cond.soleField "LeftistHeaps" "free") ∈ lw_all := lw_g (lw_at lw_m1 64 rfl) rfl
theorem q89 : (Jvm.Cond.lays "LeftistHeaps" "LeftistHeaps" "nHeaps" "I") ∈ lw_all := lw_g (lw_at lw_m1 65 rfl) rfl
theorem q90 : (Jvm.Cond.soleField "LeftistHeaps" "nHeaps") ∈ lw_all := lw_g (lw_at lw_m1 66 rfl) rfl
theorem q91 : (Jvm.Cond.lays "LeftistHeaps" "LeftistHeaps" "tokens" "I") ∈ lw_all := lw_g (lw_at lw_m1 67 rfl) rfl
theorem q92 : (Jvm.Cond.soleField "LeftistHeaps" "tokens") ∈ lw_all := lw_g (lw_at lw_m1 68 rfl) rfl
theorem q93 : (Jvm.Cond.superclass "LeftistHeaps" "java/lang/Object") ∈ lw_all := lw_g (lw_at lw_m1 69 rfl) rfl
theorem q98 : (Jvm.Cond.instanceMethod ({ cls := "LeftistHeaps", name := "newHeap", desc := "()I" } : Jvm.MethodName)) ∈ lw_all := lw_g (lw_at lw_m1 74 rfl) rfl
theorem q99 : (Jvm.Cond.selects "LeftistHeaps" ({ cls := "LeftistHeaps", name := "newHeap", desc := "()I" } : Jvm.MethodName) ({ cls := "LeftistHeaps", name := "newHeap", desc := "()I" } : Jvm.MethodName)) ∈ lw_all := lw_g (lw_at lw_m1 75 rfl) rfl
theorem q100 : (Jvm.Cond.code ({ cls := "LeftistHeaps", name := "newHeap", desc := "()I" } : Jvm.MethodName) prog_1_method_6_code (1 : Nat) (Option.some Jvm.ClassFile.FieldType.int)) ∈ lw_all := lw_g (lw_at lw_m1 76 rfl) rfl
theorem q101 : (Jvm.Cond.methodLink "LeftistHeaps" (69 : Nat) ({ cls := "LeftistHeaps", name := "newToken", desc := "(I)V" } : Jvm.MethodName)) ∈ lw_all := lw_g (lw_at lw_m1 77 rfl) rfl
theorem q102 : (Jvm.Cond.privateMethod ({ cls := "LeftistHeaps", name := "newToken", desc := "(I)V" } : Jvm.MethodName)) ∈ lw_tbl := lw_at lw_m1 78 rfl
theorem q103 : (Jvm.Cond.instanceMethod ({ cls := "LeftistHeaps", name := "newToken", desc := "(I)V" } : Jvm.MethodName)) ∈ lw_all := lw_g (lw_at lw_m1 79 rfl) rfl
theorem q104 : (Jvm.Cond.code ({ cls := "LeftistHeaps", name := "newToken", desc := "(I)V" } : Jvm.MethodName) prog_1_method_5_code (2 : Nat) (Option.none : Option Jvm.ClassFile.FieldType)) ∈ lw_all := lw_g (lw_at lw_m1 80 rfl) rfl
theorem q106 : (Jvm.Cond.instanceMethod ({ cls := "LeftistHeaps", name := "insert", desc := "(II)I" } : Jvm.MethodName)) ∈ lw_all := lw_g (lw_at lw_m1 82 rfl) rfl
theorem q107 : (Jvm.Cond.selects "LeftistHeaps" ({ cls := "LeftistHeaps", name := "insert", desc := "(II)I" } : Jvm.MethodName) ({ cls := "LeftistHeaps", name := "insert", desc := "(II)I" } : Jvm.MethodName)) ∈ lw_all := lw_g (lw_at lw_m1 83 rfl) rfl
theorem q108 : (Jvm.Cond.code ({ cls := "LeftistHeaps", name := "insert", desc := "(II)I" } : Jvm.MethodName) prog_1_method_15_code (4 : Nat) (Option.some Jvm.ClassFile.FieldType.int)) ∈ lw_all := lw_g (lw_at lw_m1 84 rfl) rfl
theorem q109 : (Jvm.Cond.methodLink "LeftistHeaps" (95 : Nat) ({ cls := "LeftistHeaps", name := "isHeap", desc := "(I)Z" } : Jvm.MethodName)) ∈ lw_all := lw_g (lw_at lw_m1 85 rfl) rfl
theorem q110 : (Jvm.Cond.privateMethod ({ cls := "LeftistHeaps", name := "isHeap", desc := "(I)Z" } : Jvm.MethodName)) ∈ lw_tbl := lw_at lw_m1 86 rfl
theorem q111 : (Jvm.Cond.instanceMethod ({ cls := "LeftistHeaps", name := "isHeap", desc := "(I)Z" } : Jvm.MethodName)) ∈ lw_all := lw_g (lw_at lw_m1 87 rfl) rfl
theorem q112 : (Jvm.Cond.code ({ cls := "LeftistHeaps", name := "isHeap", desc := "(I)Z" } : Jvm.MethodName) prog_1_method_3_code (2 : Nat) (Option.some Jvm.ClassFile.FieldType.boolean)) ∈ lw_all := lw_g (lw_at lw_m1 88 rfl) rfl
theorem q113 : (Jvm.Cond.methodLink "LeftistHeaps" (99 : Nat) ({ cls := "LeftistHeaps", name := "clearAll", desc := "()V" } : Jvm.MethodName)) ∈ lw_all := lw_g (lw_at lw_m1 89 rfl) rfl
theorem q114 : (Jvm.Cond.privateMethod ({ cls := "LeftistHeaps", name := "clearAll", desc := "()V" } : Jvm.MethodName)) ∈ lw_tbl := lw_at lw_m1 90 rfl
theorem q115 : (Jvm.Cond.instanceMethod ({ cls := "LeftistHeaps", name := "clearAll", desc := "()V" } : Jvm.MethodName)) ∈ lw_all := lw_g (lw_at lw_m1 91 rfl) rfl
theorem q116 : (Jvm.Cond.code ({ cls := "LeftistHeaps", name := "clearAll", desc := "()V" } : Jvm.MethodName) prog_1_method_16_code (2 : Nat) (Option.none : Option Jvm.ClassFile.FieldType)) ∈ lw_all := lw_g (lw_at lw_m1 92 rfl) rfl
theorem q117 : (Jvm.Cond.methodLink "LeftistHeaps" (91 : Nat) ({ cls := "LeftistHeaps", name := "purge", desc := "(IZ)I" } : Jvm.MethodName)) ∈ lw_all := lw_g (lw_at lw_m1 93 rfl) rfl
theorem q118 : (Jvm.Cond.privateMethod ({ cls := "LeftistHeaps", name := "purge", desc := "(IZ)I" } : Jvm.MethodName)) ∈ lw_tbl := lw_at lw_m1 94 rfl
theorem q119 : (Jvm.Cond.instanceMethod ({ cls := "LeftistHeaps", name := "purge", desc := "(IZ)I" } : Jvm.MethodName)) ∈ lw_all := lw_g (lw_at lw_m1 95 rfl) rfl
theorem q120 : (Jvm.Cond.code ({ cls := "LeftistHeaps", name := "purge", desc := "(IZ)I" } : Jvm.MethodName) prog_1_method_13_code (8 : Nat) (Option.some Jvm.ClassFile.FieldType.int)) ∈ lw_all := lw_g (lw_at lw_m1 96 rfl) rfl
theorem q121 : (Jvm.Cond.methodLink "LeftistHeaps" (85 : Nat) ({ cls := "LeftistHeaps", name := "release", desc := "(I)V" } : Jvm.MethodName)) ∈ lw_all := lw_g (lw_at lw_m1 97 rfl) rfl
theorem q122 : (Jvm.Cond.privateMethod ({ cls := "LeftistHeaps", name := "release", desc := "(I)V" } : Jvm.MethodName)) ∈ lw_tbl := lw_at lw_m1 98 rfl
theorem q123 : (Jvm.Cond.instanceMethod ({ cls := "LeftistHeaps", name := "release", desc := "(I)V" } : Jvm.MethodName)) ∈ lw_all := lw_g (lw_at lw_m1 99 rfl) rfl
theorem q124 : (Jvm.Cond.code ({ cls := "LeftistHeaps", name := "release", desc := "(I)V" } : Jvm.MethodName) prog_1_method_12_code (2 : Nat) (Option.none : Option Jvm.ClassFile.FieldType)) ∈ lw_all := lw_g (lw_at lw_m1 100 rfl) rfl
theorem q125 : (Jvm.Cond.methodLink "LeftistHeaps" (88 : Nat) ({ cls := "LeftistHeaps", name := "meldRow", desc := "(I)I" } : Jvm.MethodName)) ∈ lw_all := lw_g (lw_at lw_m1 101 rfl) rfl
theorem q126 : (Jvm.Cond.privateMethod ({ cls := "LeftistHeaps", name := "meldRow", desc := "(I)I" } : Jvm.MethodName)) ∈ lw_tbl := lw_at lw_m1 102 rfl
theorem q127 : (Jvm.Cond.instanceMethod ({ cls := "LeftistHeaps", name := "meldRow", desc := "(I)I" } : Jvm.MethodName)) ∈ lw_all := lw_g (lw_at lw_m1 103 rfl) rfl
theorem q128 : (Jvm.Cond.code ({ cls := "LeftistHeaps", name := "meldRow", desc := "(I)I" } : Jvm.MethodName) prog_1_method_11_code (5 : Nat) (Option.some Jvm.ClassFile.FieldType.int)) ∈ lw_all := lw_g (lw_at lw_m1 104 rfl) rfl
theorem q129 : (Jvm.Cond.methodLink "LeftistHeaps" (81 : Nat) ({ cls := "LeftistHeaps", name := "meldTops", desc := "(II)I" } : Jvm.MethodName)) ∈ lw_all := lw_g (lw_at lw_m1 105 rfl) rfl
theorem q130 : (Jvm.Cond.privateMethod ({ cls := "LeftistHeaps", name := "meldTops", desc := "(II)I" } : Jvm.MethodName)) ∈ lw_tbl := lw_at lw_m1 106 rfl
theorem q131 : (Jvm.Cond.instanceMethod ({ cls := "LeftistHeaps", name := "meldTops", desc := "(II)I" } : Jvm.MethodName)) ∈ lw_all := lw_g (lw_at lw_m1 107 rfl) rfl
theorem q132 : (Jvm.Cond.code ({ cls := "LeftistHeaps", name := "meldTops", desc := "(II)I" } : Jvm.MethodName) prog_1_method_10_code (9 : Nat) (Option.some Jvm.ClassFile.FieldType.int)) ∈ lw_all := lw_g (lw_at lw_m1 108 rfl) rfl
theorem q133 : (Jvm.Cond.methodLink "LeftistHeaps" (73 : Nat) ({ cls := "LeftistHeaps", name := "isBefore", desc := "(II)Z" } : Jvm.MethodName)) ∈ lw_all := lw_g (lw_at lw_m1 109 rfl) rfl
theorem q134 : (Jvm.Cond.privateMethod ({ cls := "LeftistHeaps", name := "isBefore", desc := "(II)Z" } : Jvm.MethodName)) ∈ lw_tbl := lw_at lw_m1 110 rfl
theorem q135 : (Jvm.Cond.instanceMethod ({ cls := "LeftistHeaps", name := "isBefore", desc := "(II)Z" } : Jvm.MethodName)) ∈ lw_all := lw_g (lw_at lw_m1 111 rfl) rfl
theorem q136 : (Jvm.Cond.code ({ cls := "LeftistHeaps", name := "isBefore", desc := "(II)Z" } : Jvm.MethodName) prog_1_method_8_code (3 : Nat) (Option.some Jvm.ClassFile.FieldType.boolean)) ∈ lw_all := lw_g (lw_at lw_m1 112 rfl) rfl
theorem q137 : (Jvm.Cond.methodLink "LeftistHeaps" (77 : Nat) ({ cls := "LeftistHeaps", name := "rankOf", desc := "(I)I" } : Jvm.MethodName)) ∈ lw_all := lw_g (lw_at lw_m1 113 rfl) rfl
theorem q138 : (Jvm.Cond.privateMethod ({ cls := "LeftistHeaps", name := "rankOf", desc := "(I)I" } : Jvm.MethodName)) ∈ lw_tbl := lw_at lw_m1 114 rfl
theorem q139 : (Jvm.Cond.instanceMethod ({ cls := "LeftistHeaps", name := "rankOf", desc := "(I)I" } : Jvm.MethodName)) ∈ lw_all := lw_g (lw_at lw_m1 115 rfl) rfl
theorem q140 : (Jvm.Cond.code ({ cls := "LeftistHeaps", name := "rankOf", desc := "(I)I" } : Jvm.MethodName) prog_1_method_9_code (2 : Nat) (Option.some Jvm.ClassFile.FieldType.int)) ∈ lw_all := lw_g (lw_at lw_m1 116 rfl) rfl
theorem q142 : (Jvm.Cond.instanceMethod ({ cls := "LeftistHeaps", name := "delete", desc := "(I)I" } : Jvm.MethodName)) ∈ lw_all := lw_g (lw_at lw_m1 118 rfl) rfl
theorem q143 : (Jvm.Cond.selects "LeftistHeaps" ({ cls := "LeftistHeaps", name := "delete", desc := "(I)I" } : Jvm.MethodName) ({ cls := "LeftistHeaps", name := "delete", desc := "(I)I" } : Jvm.MethodName)) ∈ lw_all := lw_g (lw_at lw_m1 119 rfl) rfl
theorem q144 : (Jvm.Cond.code ({ cls := "LeftistHeaps", name := "delete", desc := "(I)I" } : Jvm.MethodName) prog_1_method_17_code (2 : Nat) (Option.some Jvm.ClassFile.FieldType.int)) ∈ lw_all := lw_g (lw_at lw_m1 120 rfl) rfl
theorem q145 : (Jvm.Cond.methodLink "LeftistHeaps" (102 : Nat) ({ cls := "LeftistHeaps", name := "isLive", desc := "(I)Z" } : Jvm.MethodName)) ∈ lw_all := lw_g (lw_at lw_m1 121 rfl) rfl
theorem q146 : (Jvm.Cond.privateMethod ({ cls := "LeftistHeaps", name := "isLive", desc := "(I)Z" } : Jvm.MethodName)) ∈ lw_tbl := lw_at lw_m1 122 rfl
theorem q147 : (Jvm.Cond.instanceMethod ({ cls := "LeftistHeaps", name := "isLive", desc := "(I)Z" } : Jvm.MethodName)) ∈ lw_all := lw_g (lw_at lw_m1 123 rfl) rfl
theorem q148 : (Jvm.Cond.code ({ cls := "LeftistHeaps", name := "isLive", desc := "(I)Z" } : Jvm.MethodName) prog_1_method_4_code (2 : Nat) (Option.some Jvm.ClassFile.FieldType.boolean)) ∈ lw_all := lw_g (lw_at lw_m1 124 rfl) rfl
theorem q149 : (Jvm.Cond.methodLink "LeftistHeaps" (105 : Nat) ({ cls := "LeftistHeaps", name := "ownerOf", desc := "(I)I" } : Jvm.MethodName)) ∈ lw_all := lw_g (lw_at lw_m1 125 rfl) rfl
theorem q150 : (Jvm.Cond.privateMethod ({ cls := "LeftistHeaps", name := "ownerOf", desc := "(I)I" } : Jvm.MethodName)) ∈ lw_tbl := lw_at lw_m1 126 rfl
theorem q151 : (Jvm.Cond.instanceMethod ({ cls := "LeftistHeaps", name := "ownerOf", desc := "(I)I" } : Jvm.MethodName)) ∈ lw_all := lw_g (lw_at lw_m1 127 rfl) rfl
theorem q152 : (Jvm.Cond.code ({ cls := "LeftistHeaps", name := "ownerOf", desc := "(I)I" } : Jvm.MethodName) prog_1_method_7_code (3 : Nat) (Option.some Jvm.ClassFile.FieldType.int)) ∈ lw_all := lw_g (lw_at lw_m1 128 rfl) rfl
theorem q154 : (Jvm.Cond.instanceMethod ({ cls := "LeftistHeaps", name := "findMin", desc := "(I)I" } : Jvm.MethodName)) ∈ lw_all := lw_g (lw_at lw_m1 130 rfl) rfl
theorem q155 : (Jvm.Cond.selects "LeftistHeaps" ({ cls := "LeftistHeaps", name := "findMin", desc := "(I)I" } : Jvm.MethodName) ({ cls := "LeftistHeaps", name := "findMin", desc := "(I)I" } : Jvm.MethodName)) ∈ lw_all := lw_g (lw_at lw_m1 131 rfl) rfl
theorem q156 : (Jvm.Cond.code ({ cls := "LeftistHeaps", name := "findMin", desc := "(I)I" } : Jvm.MethodName) prog_1_method_18_code (2 : Nat) (Option.some Jvm.ClassFile.FieldType.int)) ∈ lw_all := lw_g (lw_at lw_m1 132 rfl) rfl
theorem q157 : (Jvm.Cond.methodLink "LeftistHeaps" (108 : Nat) ({ cls := "LeftistHeaps", name := "purgeTop", desc := "(I)V" } : Jvm.MethodName)) ∈ lw_all := lw_g (lw_at lw_m1 133 rfl) rfl
theorem q158 : (Jvm.Cond.privateMethod ({ cls := "LeftistHeaps", name := "purgeTop", desc := "(I)V" } : Jvm.MethodName)) ∈ lw_tbl := lw_at lw_m1 134 rfl
theorem q159 : (Jvm.Cond.instanceMethod ({ cls := "LeftistHeaps", name := "purgeTop", desc := "(I)V" } : Jvm.MethodName)) ∈ lw_all := lw_g (lw_at lw_m1 135 rfl) rfl
theorem q160 : (Jvm.Cond.code ({ cls := "LeftistHeaps", name := "purgeTop", desc := "(I)V" } : Jvm.MethodName) prog_1_method_14_code (2 : Nat) (Option.none : Option Jvm.ClassFile.FieldType)) ∈ lw_all := lw_g (lw_at lw_m1 136 rfl) rfl
theorem q162 : (Jvm.Cond.instanceMethod ({ cls := "LeftistHeaps", name := "deleteMin", desc := "(I)I" } : Jvm.MethodName)) ∈ lw_all := lw_g (lw_at lw_m1 138 rfl) rfl
theorem q163 : (Jvm.Cond.selects "LeftistHeaps" ({ cls := "LeftistHeaps", name := "deleteMin", desc := "(I)I" } : Jvm.MethodName) ({ cls := "LeftistHeaps", name := "deleteMin", desc := "(I)I" } : Jvm.MethodName)) ∈ lw_all := lw_g (lw_at lw_m1 139 rfl) rfl
theorem q164 : (Jvm.Cond.code ({ cls := "LeftistHeaps", name := "deleteMin", desc := "(I)I" } : Jvm.MethodName) prog_1_method_19_code (5 : Nat) (Option.some Jvm.ClassFile.FieldType.int)) ∈ lw_all := lw_g (lw_at lw_m1 140 rfl) rfl
theorem q165 : (Jvm.Cond.methodLink "LeftistHeaps" (111 : Nat) ({ cls := "LeftistHeaps", name := "findMin", desc := "(I)I" } : Jvm.MethodName)) ∈ lw_all := lw_g (lw_at lw_m1 141 rfl) rfl
theorem q167 : (Jvm.Cond.instanceMethod ({ cls := "LeftistHeaps", name := "meld", desc := "(II)I" } : Jvm.MethodName)) ∈ lw_all := lw_g (lw_at lw_m1 143 rfl) rfl
theorem q168 : (Jvm.Cond.selects "LeftistHeaps" ({ cls := "LeftistHeaps", name := "meld", desc := "(II)I" } : Jvm.MethodName) ({ cls := "LeftistHeaps", name := "meld", desc := "(II)I" } : Jvm.MethodName)) ∈ lw_all := lw_g (lw_at lw_m1 144 rfl) rfl
theorem q169 : (Jvm.Cond.code ({ cls := "LeftistHeaps", name := "meld", desc := "(II)I" } : Jvm.MethodName) prog_1_method_20_code (3 : Nat) (Option.some Jvm.ClassFile.FieldType.int)) ∈ lw_all := lw_g (lw_at lw_m1 145 rfl) rfl
theorem q171 : (Jvm.Cond.instanceMethod ({ cls := "LeftistHeaps", name := "keyOf", desc := "(I)I" } : Jvm.MethodName)) ∈ lw_all := lw_g (lw_at lw_m1 147 rfl) rfl
theorem q172 : (Jvm.Cond.selects "LeftistHeaps" ({ cls := "LeftistHeaps", name := "keyOf", desc := "(I)I" } : Jvm.MethodName) ({ cls := "LeftistHeaps", name := "keyOf", desc := "(I)I" } : Jvm.MethodName)) ∈ lw_all := lw_g (lw_at lw_m1 148 rfl) rfl
theorem q173 : (Jvm.Cond.code ({ cls := "LeftistHeaps", name := "keyOf", desc := "(I)I" } : Jvm.MethodName) prog_1_method_21_code (2 : Nat) (Option.some Jvm.ClassFile.FieldType.int)) ∈ lw_all := lw_g (lw_at lw_m1 149 rfl) rfl
theorem q175 : (Jvm.Cond.instanceMethod ({ cls := "LeftistHeaps", name := "size", desc := "(I)I" } : Jvm.MethodName)) ∈ lw_all := lw_g (lw_at lw_m1 151 rfl) rfl
theorem q176 : (Jvm.Cond.selects "LeftistHeaps" ({ cls := "LeftistHeaps", name := "size", desc := "(I)I" } : Jvm.MethodName) ({ cls := "LeftistHeaps", name := "size", desc := "(I)I" } : Jvm.MethodName)) ∈ lw_all := lw_g (lw_at lw_m1 152 rfl) rfl
theorem q177 : (Jvm.Cond.code ({ cls := "LeftistHeaps", name := "size", desc := "(I)I" } : Jvm.MethodName) prog_1_method_22_code (2 : Nat) (Option.some Jvm.ClassFile.FieldType.int)) ∈ lw_all := lw_g (lw_at lw_m1 153 rfl) rfl
theorem q179 : (Jvm.Cond.instanceMethod ({ cls := "LeftistHeaps", name := "cellsFree", desc := "()I" } : Jvm.MethodName)) ∈ lw_all := lw_g (lw_at lw_m1 155 rfl) rfl
theorem q180 : (Jvm.Cond.selects "LeftistHeaps" ({ cls := "LeftistHeaps", name := "cellsFree", desc := "()I" } : Jvm.MethodName) ({ cls := "LeftistHeaps", name := "cellsFree", desc := "()I" } : Jvm.MethodName)) ∈ lw_all := lw_g (lw_at lw_m1 156 rfl) rfl
theorem q181 : (Jvm.Cond.code ({ cls := "LeftistHeaps", name := "cellsFree", desc := "()I" } : Jvm.MethodName) prog_1_method_23_code (1 : Nat) (Option.some Jvm.ClassFile.FieldType.int)) ∈ lw_all := lw_g (lw_at lw_m1 157 rfl) rfl
theorem q183 : (Jvm.Cond.instanceMethod ({ cls := "LeftistHeaps", name := "node", desc := "(II)I" } : Jvm.MethodName)) ∈ lw_all := lw_g (lw_at lw_m1 159 rfl) rfl
theorem q184 : (Jvm.Cond.selects "LeftistHeaps" ({ cls := "LeftistHeaps", name := "node", desc := "(II)I" } : Jvm.MethodName) ({ cls := "LeftistHeaps", name := "node", desc := "(II)I" } : Jvm.MethodName)) ∈ lw_all := lw_g (lw_at lw_m1 160 rfl) rfl
theorem q185 : (Jvm.Cond.code ({ cls := "LeftistHeaps", name := "node", desc := "(II)I" } : Jvm.MethodName) prog_1_method_24_code (3 : Nat) (Option.some Jvm.ClassFile.FieldType.int)) ∈ lw_all := lw_g (lw_at lw_m1 161 rfl) rfl
theorem q187 : (Jvm.Cond.instanceMethod ({ cls := "LeftistHeaps", name := "topOf", desc := "(I)I" } : Jvm.MethodName)) ∈ lw_all := lw_g (lw_at lw_m1 163 rfl) rfl
theorem q188 : (Jvm.Cond.selects "LeftistHeaps" ({ cls := "LeftistHeaps", name := "topOf", desc := "(I)I" } : Jvm.MethodName) ({ cls := "LeftistHeaps", name := "topOf", desc := "(I)I" } : Jvm.MethodName)) ∈ lw_all := lw_g (lw_at lw_m1 164 rfl) rfl
theorem q189 : (Jvm.Cond.code ({ cls := "LeftistHeaps", name := "topOf", desc := "(I)I" } : Jvm.MethodName) prog_1_method_25_code (2 : Nat) (Option.some Jvm.ClassFile.FieldType.int)) ∈ lw_all := lw_g (lw_at lw_m1 165 rfl) rfl
theorem in_X0 : ∀ w ∈ wsX00, w ∈ lw_all := lw_in wsX00 [57, 59, 61, 63, 65, 67, 69, 71, 73, 75, 77, 79, 81, 83, 85, 87, 89, 91] (by decide +kernel) (by decide +kernel)
end
section
/-! LeftistHeapsModel -/
set_option maxRecDepth 100000
def RX1 : String := "LeftistHeapsModel"
def TX1 : u_T := fun k => match k with
  | 0 => ("LeftistHeapsModel", "key", "[I", true)
  | 1 => ("LeftistHeapsModel", "left", "[I", true)
  | 2 => ("LeftistHeapsModel", "right", "[I", true)
  | 3 => ("LeftistHeapsModel", "rank", "[I", true)
  | 4 => ("LeftistHeapsModel", "state", "[I", true)
  | 5 => ("LeftistHeapsModel", "free", "[I", true)
  | 6 => ("LeftistHeapsModel", "freeMany", "I", false)
  | 7 => ("LeftistHeapsModel", "top", "[I", true)
  | 8 => ("LeftistHeapsModel", "heaps", "I", false)
  | 9 => ("LeftistHeapsModel", "pile", "[I", true)
  | 10 => ("LeftistHeapsModel", "spine", "[I", true)
  | 11 => ("LeftistHeapsModel", "row", "[I", true)
  | _ => ("LeftistHeapsModel", "rowMany", "I", false)
def tyX1 : Nat → FieldType := fun k => match k with
  | 0 => .array .int
  | 1 => .array .int
  | 2 => .array .int
  | 3 => .array .int
  | 4 => .array .int
  | 5 => .array .int
  | 6 => .int
  | 7 => .array .int
  | 8 => .int
  | 9 => .array .int
  | 10 => .array .int
  | 11 => .array .int
  | _ => .int
abbrev wsX10 : List Cond := u_ws RX1 TX1 13
set_option maxRecDepth 100000 in
theorem nmX1 : ∀ a, a < 13 → ∀ b, b < 13 → a ≠ b → (TX1 a).2.1 ≠ (TX1 b).2.1 := by decide +kernel
set_option maxRecDepth 100000 in
theorem tyX1_ok : ∀ k, k < 13 → parseFieldDescriptor (TX1 k).2.2.1 = some (tyX1 k) := by decide +kernel
abbrev cX1_init : ByteArray := prog_3_method_1_code
def yX1_init : MethodName := ⟨RX1, "<init>", "()V"⟩
theorem dX1_init_0 : decode cX1_init 0 = .ok (.aload_n 0, 1) := by decide +kernel
theorem dX1_init_1 : decode cX1_init 1 = .ok (.invokespecial 1, 3) := by decide +kernel
theorem dX1_init_4 : decode cX1_init 4 = .ok (.aload_n 0, 1) := by decide +kernel
theorem dX1_init_5 : decode cX1_init 5 = .ok (.bipush 60, 2) := by decide +kernel
theorem dX1_init_7 : decode cX1_init 7 = .ok (.newarray .int, 2) := by decide +kernel
theorem dX1_init_9 : decode cX1_init 9 = .ok (.putfield 7, 3) := by decide +kernel
theorem dX1_init_12 : decode cX1_init 12 = .ok (.aload_n 0, 1) := by decide +kernel
theorem dX1_init_13 : decode cX1_init 13 = .ok (.bipush 60, 2) := by decide +kernel
theorem dX1_init_15 : decode cX1_init 15 = .ok (.newarray .int, 2) := by decide +kernel
theorem dX1_init_17 : decode cX1_init 17 = .ok (.putfield 13, 3) := by decide +kernel
theorem dX1_init_20 : decode cX1_init 20 = .ok (.aload_n 0, 1) := by decide +kernel
theorem dX1_init_21 : decode cX1_init 21 = .ok (.bipush 60, 2) := by decide +kernel
theorem dX1_init_23 : decode cX1_init 23 = .ok (.newarray .int, 2) := by decide +kernel
theorem dX1_init_25 : decode cX1_init 25 = .ok (.putfield 16, 3) := by decide +kernel
theorem dX1_init_28 : decode cX1_init 28 = .ok (.aload_n 0, 1) := by decide +kernel
theorem dX1_init_29 : decode cX1_init 29 = .ok (.bipush 60, 2) := by decide +kernel
theorem dX1_init_31 : decode cX1_init 31 = .ok (.newarray .int, 2) := by decide +kernel
theorem dX1_init_33 : decode cX1_init 33 = .ok (.putfield 19, 3) := by decide +kernel
theorem dX1_init_36 : decode cX1_init 36 = .ok (.aload_n 0, 1) := by decide +kernel
theorem dX1_init_37 : decode cX1_init 37 = .ok (.bipush 60, 2) := by decide +kernel
theorem dX1_init_39 : decode cX1_init 39 = .ok (.newarray .int, 2) := by decide +kernel
theorem dX1_init_41 : decode cX1_init 41 = .ok (.putfield 22, 3) := by decide +kernel
theorem dX1_init_44 : decode cX1_init 44 = .ok (.aload_n 0, 1) := by decide +kernel
theorem dX1_init_45 : decode cX1_init 45 = .ok (.bipush 60, 2) := by decide +kernel
theorem dX1_init_47 : decode cX1_init 47 = .ok (.newarray .int, 2) := by decide +kernel
theorem dX1_init_49 : decode cX1_init 49 = .ok (.putfield 25, 3) := by decide +kernel
theorem dX1_init_52 : decode cX1_init 52 = .ok (.aload_n 0, 1) := by decide +kernel
theorem dX1_init_53 : decode cX1_init 53 = .ok (.bipush 10, 2) := by decide +kernel
theorem dX1_init_55 : decode cX1_init 55 = .ok (.newarray .int, 2) := by decide +kernel
theorem dX1_init_57 : decode cX1_init 57 = .ok (.putfield 28, 3) := by decide +kernel
theorem dX1_init_60 : decode cX1_init 60 = .ok (.aload_n 0, 1) := by decide +kernel
theorem dX1_init_61 : decode cX1_init 61 = .ok (.bipush 64, 2) := by decide +kernel
theorem dX1_init_63 : decode cX1_init 63 = .ok (.newarray .int, 2) := by decide +kernel
theorem dX1_init_65 : decode cX1_init 65 = .ok (.putfield 31, 3) := by decide +kernel
theorem dX1_init_68 : decode cX1_init 68 = .ok (.aload_n 0, 1) := by decide +kernel
theorem dX1_init_69 : decode cX1_init 69 = .ok (.bipush 64, 2) := by decide +kernel
theorem dX1_init_71 : decode cX1_init 71 = .ok (.newarray .int, 2) := by decide +kernel
theorem dX1_init_73 : decode cX1_init 73 = .ok (.putfield 34, 3) := by decide +kernel
theorem dX1_init_76 : decode cX1_init 76 = .ok (.aload_n 0, 1) := by decide +kernel
theorem dX1_init_77 : decode cX1_init 77 = .ok (.bipush 64, 2) := by decide +kernel
theorem dX1_init_79 : decode cX1_init 79 = .ok (.newarray .int, 2) := by decide +kernel
theorem dX1_init_81 : decode cX1_init 81 = .ok (.putfield 37, 3) := by decide +kernel
theorem dX1_init_84 : decode cX1_init 84 = .ok (.aload_n 0, 1) := by decide +kernel
theorem dX1_init_85 : decode cX1_init 85 = .ok (.invokevirtual 40, 3) := by decide +kernel
theorem dX1_init_88 : decode cX1_init 88 = .ok (.return_, 1) := by decide +kernel
abbrev cX1_init_2 : ByteArray := prog_3_method_2_code
def yX1_init_2 : MethodName := ⟨RX1, "init", "()V"⟩
theorem dX1_init_2_0 : decode cX1_init_2 0 = .ok (.aload_n 0, 1) := by decide +kernel
theorem dX1_init_2_1 : decode cX1_init_2 1 = .ok (.iconst 0, 1) := by decide +kernel
theorem dX1_init_2_2 : decode cX1_init_2 2 = .ok (.putfield 43, 3) := by decide +kernel
theorem dX1_init_2_5 : decode cX1_init_2 5 = .ok (.aload_n 0, 1) := by decide +kernel
theorem dX1_init_2_6 : decode cX1_init_2 6 = .ok (.bipush 60, 2) := by decide +kernel
theorem dX1_init_2_8 : decode cX1_init_2 8 = .ok (.putfield 47, 3) := by decide +kernel
theorem dX1_init_2_11 : decode cX1_init_2 11 = .ok (.iconst 0, 1) := by decide +kernel
theorem dX1_init_2_12 : decode cX1_init_2 12 = .ok (.istore_n 1, 1) := by decide +kernel
theorem dX1_init_2_13 : decode cX1_init_2 13 = .ok (.iload_n 1, 1) := by decide +kernel
theorem dX1_init_2_14 : decode cX1_init_2 14 = .ok (.bipush 60, 2) := by decide +kernel
theorem dX1_init_2_16 : decode cX1_init_2 16 = .ok (.if_icmp .ge 26, 3) := by decide +kernel
theorem dX1_init_2_19 : decode cX1_init_2 19 = .ok (.aload_n 0, 1) := by decide +kernel
theorem dX1_init_2_20 : decode cX1_init_2 20 = .ok (.getfield 25, 3) := by decide +kernel
theorem dX1_init_2_23 : decode cX1_init_2 23 = .ok (.iload_n 1, 1) := by decide +kernel
theorem dX1_init_2_24 : decode cX1_init_2 24 = .ok (.bipush 59, 2) := by decide +kernel
theorem dX1_init_2_26 : decode cX1_init_2 26 = .ok (.iload_n 1, 1) := by decide +kernel
theorem dX1_init_2_27 : decode cX1_init_2 27 = .ok (.isub, 1) := by decide +kernel
theorem dX1_init_2_28 : decode cX1_init_2 28 = .ok (.iastore, 1) := by decide +kernel
theorem dX1_init_2_29 : decode cX1_init_2 29 = .ok (.aload_n 0, 1) := by decide +kernel
theorem dX1_init_2_30 : decode cX1_init_2 30 = .ok (.getfield 22, 3) := by decide +kernel
theorem dX1_init_2_33 : decode cX1_init_2 33 = .ok (.iload_n 1, 1) := by decide +kernel
theorem dX1_init_2_34 : decode cX1_init_2 34 = .ok (.iconst 0, 1) := by decide +kernel
theorem dX1_init_2_35 : decode cX1_init_2 35 = .ok (.iastore, 1) := by decide +kernel
theorem dX1_init_2_36 : decode cX1_init_2 36 = .ok (.iinc 1 1, 3) := by decide +kernel
theorem dX1_init_2_39 : decode cX1_init_2 39 = .ok (.goto (-26), 3) := by decide +kernel
theorem dX1_init_2_42 : decode cX1_init_2 42 = .ok (.return_, 1) := by decide +kernel
abbrev cX1_newHeap : ByteArray := prog_3_method_13_code
def yX1_newHeap : MethodName := ⟨RX1, "newHeap", "()I"⟩
theorem dX1_newHeap_0 : decode cX1_newHeap 0 = .ok (.aload_n 0, 1) := by decide +kernel
theorem dX1_newHeap_1 : decode cX1_newHeap 1 = .ok (.getfield 43, 3) := by decide +kernel
theorem dX1_newHeap_4 : decode cX1_newHeap 4 = .ok (.bipush 10, 2) := by decide +kernel
theorem dX1_newHeap_6 : decode cX1_newHeap 6 = .ok (.if_icmp .ne 5, 3) := by decide +kernel
theorem dX1_newHeap_9 : decode cX1_newHeap 9 = .ok (.iconst (-1), 1) := by decide +kernel
theorem dX1_newHeap_10 : decode cX1_newHeap 10 = .ok (.ireturn, 1) := by decide +kernel
theorem dX1_newHeap_11 : decode cX1_newHeap 11 = .ok (.aload_n 0, 1) := by decide +kernel
theorem dX1_newHeap_12 : decode cX1_newHeap 12 = .ok (.getfield 28, 3) := by decide +kernel
theorem dX1_newHeap_15 : decode cX1_newHeap 15 = .ok (.aload_n 0, 1) := by decide +kernel
theorem dX1_newHeap_16 : decode cX1_newHeap 16 = .ok (.getfield 43, 3) := by decide +kernel
theorem dX1_newHeap_19 : decode cX1_newHeap 19 = .ok (.iconst (-1), 1) := by decide +kernel
theorem dX1_newHeap_20 : decode cX1_newHeap 20 = .ok (.iastore, 1) := by decide +kernel
theorem dX1_newHeap_21 : decode cX1_newHeap 21 = .ok (.aload_n 0, 1) := by decide +kernel
theorem dX1_newHeap_22 : decode cX1_newHeap 22 = .ok (.dup, 1) := by decide +kernel
theorem dX1_newHeap_23 : decode cX1_newHeap 23 = .ok (.getfield 43, 3) := by decide +kernel
theorem dX1_newHeap_26 : decode cX1_newHeap 26 = .ok (.iconst 1, 1) := by decide +kernel
theorem dX1_newHeap_27 : decode cX1_newHeap 27 = .ok (.iadd, 1) := by decide +kernel
theorem dX1_newHeap_28 : decode cX1_newHeap 28 = .ok (.putfield 43, 3) := by decide +kernel
theorem dX1_newHeap_31 : decode cX1_newHeap 31 = .ok (.aload_n 0, 1) := by decide +kernel
theorem dX1_newHeap_32 : decode cX1_newHeap 32 = .ok (.getfield 43, 3) := by decide +kernel
theorem dX1_newHeap_35 : decode cX1_newHeap 35 = .ok (.iconst 1, 1) := by decide +kernel
theorem dX1_newHeap_36 : decode cX1_newHeap 36 = .ok (.isub, 1) := by decide +kernel
theorem dX1_newHeap_37 : decode cX1_newHeap 37 = .ok (.ireturn, 1) := by decide +kernel
abbrev cX1_insert : ByteArray := prog_3_method_14_code
def yX1_insert : MethodName := ⟨RX1, "insert", "(II)I"⟩
theorem dX1_insert_0 : decode cX1_insert 0 = .ok (.aload_n 0, 1) := by decide +kernel
theorem dX1_insert_1 : decode cX1_insert 1 = .ok (.iload_n 1, 1) := by decide +kernel
theorem dX1_insert_2 : decode cX1_insert 2 = .ok (.invokevirtual 84, 3) := by decide +kernel
theorem dX1_insert_5 : decode cX1_insert 5 = .ok (.ifCond .ne 5, 3) := by decide +kernel
theorem dX1_insert_8 : decode cX1_insert 8 = .ok (.iconst (-1), 1) := by decide +kernel
theorem dX1_insert_9 : decode cX1_insert 9 = .ok (.ireturn, 1) := by decide +kernel
theorem dX1_insert_10 : decode cX1_insert 10 = .ok (.aload_n 0, 1) := by decide +kernel
theorem dX1_insert_11 : decode cX1_insert 11 = .ok (.getfield 47, 3) := by decide +kernel
theorem dX1_insert_14 : decode cX1_insert 14 = .ok (.ifCond .ne 7, 3) := by decide +kernel
theorem dX1_insert_17 : decode cX1_insert 17 = .ok (.aload_n 0, 1) := by decide +kernel
theorem dX1_insert_18 : decode cX1_insert 18 = .ok (.invokevirtual 88, 3) := by decide +kernel
theorem dX1_insert_21 : decode cX1_insert 21 = .ok (.aload_n 0, 1) := by decide +kernel
theorem dX1_insert_22 : decode cX1_insert 22 = .ok (.getfield 47, 3) := by decide +kernel
theorem dX1_insert_25 : decode cX1_insert 25 = .ok (.ifCond .ne 6, 3) := by decide +kernel
theorem dX1_insert_28 : decode cX1_insert 28 = .ok (.bipush (-2), 2) := by decide +kernel
theorem dX1_insert_30 : decode cX1_insert 30 = .ok (.ireturn, 1) := by decide +kernel
theorem dX1_insert_31 : decode cX1_insert 31 = .ok (.aload_n 0, 1) := by decide +kernel
theorem dX1_insert_32 : decode cX1_insert 32 = .ok (.dup, 1) := by decide +kernel
theorem dX1_insert_33 : decode cX1_insert 33 = .ok (.getfield 47, 3) := by decide +kernel
theorem dX1_insert_36 : decode cX1_insert 36 = .ok (.iconst 1, 1) := by decide +kernel
theorem dX1_insert_37 : decode cX1_insert 37 = .ok (.isub, 1) := by decide +kernel
theorem dX1_insert_38 : decode cX1_insert 38 = .ok (.putfield 47, 3) := by decide +kernel
theorem dX1_insert_41 : decode cX1_insert 41 = .ok (.aload_n 0, 1) := by decide +kernel
theorem dX1_insert_42 : decode cX1_insert 42 = .ok (.getfield 25, 3) := by decide +kernel
theorem dX1_insert_45 : decode cX1_insert 45 = .ok (.aload_n 0, 1) := by decide +kernel
theorem dX1_insert_46 : decode cX1_insert 46 = .ok (.getfield 47, 3) := by decide +kernel
theorem dX1_insert_49 : decode cX1_insert 49 = .ok (.iaload, 1) := by decide +kernel
theorem dX1_insert_50 : decode cX1_insert 50 = .ok (.istore_n 3, 1) := by decide +kernel
theorem dX1_insert_51 : decode cX1_insert 51 = .ok (.aload_n 0, 1) := by decide +kernel
theorem dX1_insert_52 : decode cX1_insert 52 = .ok (.getfield 22, 3) := by decide +kernel
theorem dX1_insert_55 : decode cX1_insert 55 = .ok (.iload_n 3, 1) := by decide +kernel
theorem dX1_insert_56 : decode cX1_insert 56 = .ok (.iconst 1, 1) := by decide +kernel
theorem dX1_insert_57 : decode cX1_insert 57 = .ok (.iastore, 1) := by decide +kernel
theorem dX1_insert_58 : decode cX1_insert 58 = .ok (.aload_n 0, 1) := by decide +kernel
theorem dX1_insert_59 : decode cX1_insert 59 = .ok (.getfield 7, 3) := by decide +kernel
theorem dX1_insert_62 : decode cX1_insert 62 = .ok (.iload_n 3, 1) := by decide +kernel
theorem dX1_insert_63 : decode cX1_insert 63 = .ok (.iload_n 2, 1) := by decide +kernel
theorem dX1_insert_64 : decode cX1_insert 64 = .ok (.iastore, 1) := by decide +kernel
theorem dX1_insert_65 : decode cX1_insert 65 = .ok (.aload_n 0, 1) := by decide +kernel
theorem dX1_insert_66 : decode cX1_insert 66 = .ok (.iload_n 3, 1) := by decide +kernel
theorem dX1_insert_67 : decode cX1_insert 67 = .ok (.invokevirtual 73, 3) := by decide +kernel
theorem dX1_insert_70 : decode cX1_insert 70 = .ok (.aload_n 0, 1) := by decide +kernel
theorem dX1_insert_71 : decode cX1_insert 71 = .ok (.getfield 28, 3) := by decide +kernel
theorem dX1_insert_74 : decode cX1_insert 74 = .ok (.iload_n 1, 1) := by decide +kernel
theorem dX1_insert_75 : decode cX1_insert 75 = .ok (.aload_n 0, 1) := by decide +kernel
theorem dX1_insert_76 : decode cX1_insert 76 = .ok (.aload_n 0, 1) := by decide +kernel
theorem dX1_insert_77 : decode cX1_insert 77 = .ok (.getfield 28, 3) := by decide +kernel
theorem dX1_insert_80 : decode cX1_insert 80 = .ok (.iload_n 1, 1) := by decide +kernel
theorem dX1_insert_81 : decode cX1_insert 81 = .ok (.iaload, 1) := by decide +kernel
theorem dX1_insert_82 : decode cX1_insert 82 = .ok (.iload_n 3, 1) := by decide +kernel
theorem dX1_insert_83 : decode cX1_insert 83 = .ok (.invokevirtual 65, 3) := by decide +kernel
theorem dX1_insert_86 : decode cX1_insert 86 = .ok (.iastore, 1) := by decide +kernel
theorem dX1_insert_87 : decode cX1_insert 87 = .ok (.iload_n 3, 1) := by decide +kernel
theorem dX1_insert_88 : decode cX1_insert 88 = .ok (.ireturn, 1) := by decide +kernel
abbrev cX1_isHeap : ByteArray := prog_3_method_4_code
def yX1_isHeap : MethodName := ⟨RX1, "isHeap", "(I)Z"⟩
theorem dX1_isHeap_0 : decode cX1_isHeap 0 = .ok (.iload_n 1, 1) := by decide +kernel
theorem dX1_isHeap_1 : decode cX1_isHeap 1 = .ok (.iconst 0, 1) := by decide +kernel
theorem dX1_isHeap_2 : decode cX1_isHeap 2 = .ok (.aload_n 0, 1) := by decide +kernel
theorem dX1_isHeap_3 : decode cX1_isHeap 3 = .ok (.getfield 43, 3) := by decide +kernel
theorem dX1_isHeap_6 : decode cX1_isHeap 6 = .ok (.iconst 1, 1) := by decide +kernel
theorem dX1_isHeap_7 : decode cX1_isHeap 7 = .ok (.isub, 1) := by decide +kernel
theorem dX1_isHeap_8 : decode cX1_isHeap 8 = .ok (.invokestatic 50, 3) := by decide +kernel
theorem dX1_isHeap_11 : decode cX1_isHeap 11 = .ok (.ireturn, 1) := by decide +kernel
abbrev cX1_isIn : ByteArray := prog_3_method_3_code
def yX1_isIn : MethodName := ⟨RX1, "isIn", "(III)Z"⟩
theorem dX1_isIn_0 : decode cX1_isIn 0 = .ok (.iload_n 0, 1) := by decide +kernel
theorem dX1_isIn_1 : decode cX1_isIn 1 = .ok (.iload_n 1, 1) := by decide +kernel
theorem dX1_isIn_2 : decode cX1_isIn 2 = .ok (.if_icmp .lt 12, 3) := by decide +kernel
theorem dX1_isIn_5 : decode cX1_isIn 5 = .ok (.iload_n 0, 1) := by decide +kernel
theorem dX1_isIn_6 : decode cX1_isIn 6 = .ok (.iload_n 2, 1) := by decide +kernel
theorem dX1_isIn_7 : decode cX1_isIn 7 = .ok (.if_icmp .gt 7, 3) := by decide +kernel
theorem dX1_isIn_10 : decode cX1_isIn 10 = .ok (.iconst 1, 1) := by decide +kernel
theorem dX1_isIn_11 : decode cX1_isIn 11 = .ok (.goto 4, 3) := by decide +kernel
theorem dX1_isIn_14 : decode cX1_isIn 14 = .ok (.iconst 0, 1) := by decide +kernel
theorem dX1_isIn_15 : decode cX1_isIn 15 = .ok (.ireturn, 1) := by decide +kernel
abbrev cX1_clearAll : ByteArray := prog_3_method_15_code
def yX1_clearAll : MethodName := ⟨RX1, "clearAll", "()V"⟩
theorem dX1_clearAll_0 : decode cX1_clearAll 0 = .ok (.iconst 0, 1) := by decide +kernel
theorem dX1_clearAll_1 : decode cX1_clearAll 1 = .ok (.istore_n 1, 1) := by decide +kernel
theorem dX1_clearAll_2 : decode cX1_clearAll 2 = .ok (.iload_n 1, 1) := by decide +kernel
theorem dX1_clearAll_3 : decode cX1_clearAll 3 = .ok (.aload_n 0, 1) := by decide +kernel
theorem dX1_clearAll_4 : decode cX1_clearAll 4 = .ok (.getfield 43, 3) := by decide +kernel
theorem dX1_clearAll_7 : decode cX1_clearAll 7 = .ok (.if_icmp .ge 15, 3) := by decide +kernel
theorem dX1_clearAll_10 : decode cX1_clearAll 10 = .ok (.aload_n 0, 1) := by decide +kernel
theorem dX1_clearAll_11 : decode cX1_clearAll 11 = .ok (.iload_n 1, 1) := by decide +kernel
theorem dX1_clearAll_12 : decode cX1_clearAll 12 = .ok (.iconst 1, 1) := by decide +kernel
theorem dX1_clearAll_13 : decode cX1_clearAll 13 = .ok (.invokevirtual 91, 3) := by decide +kernel
theorem dX1_clearAll_16 : decode cX1_clearAll 16 = .ok (.iinc 1 1, 3) := by decide +kernel
theorem dX1_clearAll_19 : decode cX1_clearAll 19 = .ok (.goto (-17), 3) := by decide +kernel
theorem dX1_clearAll_22 : decode cX1_clearAll 22 = .ok (.return_, 1) := by decide +kernel
abbrev cX1_clean : ByteArray := prog_3_method_12_code
def yX1_clean : MethodName := ⟨RX1, "clean", "(IZ)V"⟩
theorem dX1_clean_0 : decode cX1_clean 0 = .ok (.aload_n 0, 1) := by decide +kernel
theorem dX1_clean_1 : decode cX1_clean 1 = .ok (.aload_n 0, 1) := by decide +kernel
theorem dX1_clean_2 : decode cX1_clean 2 = .ok (.getfield 28, 3) := by decide +kernel
theorem dX1_clean_5 : decode cX1_clean 5 = .ok (.iload_n 1, 1) := by decide +kernel
theorem dX1_clean_6 : decode cX1_clean 6 = .ok (.iaload, 1) := by decide +kernel
theorem dX1_clean_7 : decode cX1_clean 7 = .ok (.iload_n 2, 1) := by decide +kernel
theorem dX1_clean_8 : decode cX1_clean 8 = .ok (.invokevirtual 76, 3) := by decide +kernel
theorem dX1_clean_11 : decode cX1_clean 11 = .ok (.aload_n 0, 1) := by decide +kernel
theorem dX1_clean_12 : decode cX1_clean 12 = .ok (.getfield 28, 3) := by decide +kernel
theorem dX1_clean_15 : decode cX1_clean 15 = .ok (.iload_n 1, 1) := by decide +kernel
theorem dX1_clean_16 : decode cX1_clean 16 = .ok (.aload_n 0, 1) := by decide +kernel
theorem dX1_clean_17 : decode cX1_clean 17 = .ok (.invokevirtual 80, 3) := by decide +kernel
theorem dX1_clean_20 : decode cX1_clean 20 = .ok (.iastore, 1) := by decide +kernel
theorem dX1_clean_21 : decode cX1_clean 21 = .ok (.return_, 1) := by decide +kernel
abbrev cX1_goThrough : ByteArray := prog_3_method_10_code
def yX1_goThrough : MethodName := ⟨RX1, "goThrough", "(IZ)V"⟩
theorem dX1_goThrough_0 : decode cX1_goThrough 0 = .ok (.aload_n 0, 1) := by decide +kernel
theorem dX1_goThrough_1 : decode cX1_goThrough 1 = .ok (.iconst 0, 1) := by decide +kernel
theorem dX1_goThrough_2 : decode cX1_goThrough 2 = .ok (.putfield 62, 3) := by decide +kernel
theorem dX1_goThrough_5 : decode cX1_goThrough 5 = .ok (.iconst 0, 1) := by decide +kernel
theorem dX1_goThrough_6 : decode cX1_goThrough 6 = .ok (.istore_n 3, 1) := by decide +kernel
theorem dX1_goThrough_7 : decode cX1_goThrough 7 = .ok (.iload_n 1, 1) := by decide +kernel
theorem dX1_goThrough_8 : decode cX1_goThrough 8 = .ok (.ifCond .lt 12, 3) := by decide +kernel
theorem dX1_goThrough_11 : decode cX1_goThrough 11 = .ok (.aload_n 0, 1) := by decide +kernel
theorem dX1_goThrough_12 : decode cX1_goThrough 12 = .ok (.getfield 31, 3) := by decide +kernel
theorem dX1_goThrough_15 : decode cX1_goThrough 15 = .ok (.iconst 0, 1) := by decide +kernel
theorem dX1_goThrough_16 : decode cX1_goThrough 16 = .ok (.iload_n 1, 1) := by decide +kernel
theorem dX1_goThrough_17 : decode cX1_goThrough 17 = .ok (.iastore, 1) := by decide +kernel
theorem dX1_goThrough_18 : decode cX1_goThrough 18 = .ok (.iconst 1, 1) := by decide +kernel
theorem dX1_goThrough_19 : decode cX1_goThrough 19 = .ok (.istore_n 3, 1) := by decide +kernel
theorem dX1_goThrough_20 : decode cX1_goThrough 20 = .ok (.iload_n 3, 1) := by decide +kernel
theorem dX1_goThrough_21 : decode cX1_goThrough 21 = .ok (.ifCond .le 144, 3) := by decide +kernel
theorem dX1_goThrough_24 : decode cX1_goThrough 24 = .ok (.iinc 3 (-1), 3) := by decide +kernel
theorem dX1_goThrough_27 : decode cX1_goThrough 27 = .ok (.aload_n 0, 1) := by decide +kernel
theorem dX1_goThrough_28 : decode cX1_goThrough 28 = .ok (.getfield 31, 3) := by decide +kernel
theorem dX1_goThrough_31 : decode cX1_goThrough 31 = .ok (.iload_n 3, 1) := by decide +kernel
theorem dX1_goThrough_32 : decode cX1_goThrough 32 = .ok (.iaload, 1) := by decide +kernel
theorem dX1_goThrough_33 : decode cX1_goThrough 33 = .ok (.istore 4, 2) := by decide +kernel
theorem dX1_goThrough_35 : decode cX1_goThrough 35 = .ok (.aload_n 0, 1) := by decide +kernel
theorem dX1_goThrough_36 : decode cX1_goThrough 36 = .ok (.getfield 22, 3) := by decide +kernel
theorem dX1_goThrough_39 : decode cX1_goThrough 39 = .ok (.iload 4, 2) := by decide +kernel
theorem dX1_goThrough_41 : decode cX1_goThrough 41 = .ok (.iaload, 1) := by decide +kernel
theorem dX1_goThrough_42 : decode cX1_goThrough 42 = .ok (.iconst 1, 1) := by decide +kernel
theorem dX1_goThrough_43 : decode cX1_goThrough 43 = .ok (.if_icmp .ne 7, 3) := by decide +kernel
theorem dX1_goThrough_46 : decode cX1_goThrough 46 = .ok (.iconst 1, 1) := by decide +kernel
theorem dX1_goThrough_47 : decode cX1_goThrough 47 = .ok (.goto 4, 3) := by decide +kernel
theorem dX1_goThrough_50 : decode cX1_goThrough 50 = .ok (.iconst 0, 1) := by decide +kernel
theorem dX1_goThrough_51 : decode cX1_goThrough 51 = .ok (.istore 5, 2) := by decide +kernel
theorem dX1_goThrough_53 : decode cX1_goThrough 53 = .ok (.aload_n 0, 1) := by decide +kernel
theorem dX1_goThrough_54 : decode cX1_goThrough 54 = .ok (.getfield 13, 3) := by decide +kernel
theorem dX1_goThrough_57 : decode cX1_goThrough 57 = .ok (.iload 4, 2) := by decide +kernel
theorem dX1_goThrough_59 : decode cX1_goThrough 59 = .ok (.iaload, 1) := by decide +kernel
theorem dX1_goThrough_60 : decode cX1_goThrough 60 = .ok (.istore 6, 2) := by decide +kernel
theorem dX1_goThrough_62 : decode cX1_goThrough 62 = .ok (.aload_n 0, 1) := by decide +kernel
theorem dX1_goThrough_63 : decode cX1_goThrough 63 = .ok (.getfield 16, 3) := by decide +kernel
theorem dX1_goThrough_66 : decode cX1_goThrough 66 = .ok (.iload 4, 2) := by decide +kernel
theorem dX1_goThrough_68 : decode cX1_goThrough 68 = .ok (.iaload, 1) := by decide +kernel
theorem dX1_goThrough_69 : decode cX1_goThrough 69 = .ok (.istore 7, 2) := by decide +kernel
theorem dX1_goThrough_71 : decode cX1_goThrough 71 = .ok (.iload 5, 2) := by decide +kernel
theorem dX1_goThrough_73 : decode cX1_goThrough 73 = .ok (.ifCond .eq 27, 3) := by decide +kernel
theorem dX1_goThrough_76 : decode cX1_goThrough 76 = .ok (.aload_n 0, 1) := by decide +kernel
theorem dX1_goThrough_77 : decode cX1_goThrough 77 = .ok (.getfield 37, 3) := by decide +kernel
theorem dX1_goThrough_80 : decode cX1_goThrough 80 = .ok (.aload_n 0, 1) := by decide +kernel
theorem dX1_goThrough_81 : decode cX1_goThrough 81 = .ok (.getfield 62, 3) := by decide +kernel
theorem dX1_goThrough_84 : decode cX1_goThrough 84 = .ok (.iload 4, 2) := by decide +kernel
theorem dX1_goThrough_86 : decode cX1_goThrough 86 = .ok (.iastore, 1) := by decide +kernel
theorem dX1_goThrough_87 : decode cX1_goThrough 87 = .ok (.aload_n 0, 1) := by decide +kernel
theorem dX1_goThrough_88 : decode cX1_goThrough 88 = .ok (.dup, 1) := by decide +kernel
theorem dX1_goThrough_89 : decode cX1_goThrough 89 = .ok (.getfield 62, 3) := by decide +kernel
theorem dX1_goThrough_92 : decode cX1_goThrough 92 = .ok (.iconst 1, 1) := by decide +kernel
theorem dX1_goThrough_93 : decode cX1_goThrough 93 = .ok (.iadd, 1) := by decide +kernel
theorem dX1_goThrough_94 : decode cX1_goThrough 94 = .ok (.putfield 62, 3) := by decide +kernel
theorem dX1_goThrough_97 : decode cX1_goThrough 97 = .ok (.goto 9, 3) := by decide +kernel
theorem dX1_goThrough_100 : decode cX1_goThrough 100 = .ok (.aload_n 0, 1) := by decide +kernel
theorem dX1_goThrough_101 : decode cX1_goThrough 101 = .ok (.iload 4, 2) := by decide +kernel
theorem dX1_goThrough_103 : decode cX1_goThrough 103 = .ok (.invokevirtual 69, 3) := by decide +kernel
theorem dX1_goThrough_106 : decode cX1_goThrough 106 = .ok (.iload 5, 2) := by decide +kernel
theorem dX1_goThrough_108 : decode cX1_goThrough 108 = .ok (.ifCond .eq 13, 3) := by decide +kernel
theorem dX1_goThrough_111 : decode cX1_goThrough 111 = .ok (.iload_n 2, 1) := by decide +kernel
theorem dX1_goThrough_112 : decode cX1_goThrough 112 = .ok (.ifCond .eq 9, 3) := by decide +kernel
theorem dX1_goThrough_115 : decode cX1_goThrough 115 = .ok (.aload_n 0, 1) := by decide +kernel
theorem dX1_goThrough_116 : decode cX1_goThrough 116 = .ok (.iload 4, 2) := by decide +kernel
theorem dX1_goThrough_118 : decode cX1_goThrough 118 = .ok (.invokevirtual 73, 3) := by decide +kernel
theorem dX1_goThrough_121 : decode cX1_goThrough 121 = .ok (.iload 5, 2) := by decide +kernel
theorem dX1_goThrough_123 : decode cX1_goThrough 123 = .ok (.ifCond .eq 7, 3) := by decide +kernel
theorem dX1_goThrough_126 : decode cX1_goThrough 126 = .ok (.iload_n 2, 1) := by decide +kernel
theorem dX1_goThrough_127 : decode cX1_goThrough 127 = .ok (.ifCond .eq 35, 3) := by decide +kernel
theorem dX1_goThrough_130 : decode cX1_goThrough 130 = .ok (.iload 7, 2) := by decide +kernel
theorem dX1_goThrough_132 : decode cX1_goThrough 132 = .ok (.ifCond .lt 14, 3) := by decide +kernel
theorem dX1_goThrough_135 : decode cX1_goThrough 135 = .ok (.aload_n 0, 1) := by decide +kernel
theorem dX1_goThrough_136 : decode cX1_goThrough 136 = .ok (.getfield 31, 3) := by decide +kernel
theorem dX1_goThrough_139 : decode cX1_goThrough 139 = .ok (.iload_n 3, 1) := by decide +kernel
theorem dX1_goThrough_140 : decode cX1_goThrough 140 = .ok (.iload 7, 2) := by decide +kernel
theorem dX1_goThrough_142 : decode cX1_goThrough 142 = .ok (.iastore, 1) := by decide +kernel
theorem dX1_goThrough_143 : decode cX1_goThrough 143 = .ok (.iinc 3 1, 3) := by decide +kernel
theorem dX1_goThrough_146 : decode cX1_goThrough 146 = .ok (.iload 6, 2) := by decide +kernel
theorem dX1_goThrough_148 : decode cX1_goThrough 148 = .ok (.ifCond .lt 14, 3) := by decide +kernel
theorem dX1_goThrough_151 : decode cX1_goThrough 151 = .ok (.aload_n 0, 1) := by decide +kernel
theorem dX1_goThrough_152 : decode cX1_goThrough 152 = .ok (.getfield 31, 3) := by decide +kernel
theorem dX1_goThrough_155 : decode cX1_goThrough 155 = .ok (.iload_n 3, 1) := by decide +kernel
theorem dX1_goThrough_156 : decode cX1_goThrough 156 = .ok (.iload 6, 2) := by decide +kernel
theorem dX1_goThrough_158 : decode cX1_goThrough 158 = .ok (.iastore, 1) := by decide +kernel
theorem dX1_goThrough_159 : decode cX1_goThrough 159 = .ok (.iinc 3 1, 3) := by decide +kernel
theorem dX1_goThrough_162 : decode cX1_goThrough 162 = .ok (.goto (-142), 3) := by decide +kernel
theorem dX1_goThrough_165 : decode cX1_goThrough 165 = .ok (.return_, 1) := by decide +kernel
abbrev cX1_letGo : ByteArray := prog_3_method_7_code
def yX1_letGo : MethodName := ⟨RX1, "letGo", "(I)V"⟩
theorem dX1_letGo_0 : decode cX1_letGo 0 = .ok (.aload_n 0, 1) := by decide +kernel
theorem dX1_letGo_1 : decode cX1_letGo 1 = .ok (.getfield 22, 3) := by decide +kernel
theorem dX1_letGo_4 : decode cX1_letGo 4 = .ok (.iload_n 1, 1) := by decide +kernel
theorem dX1_letGo_5 : decode cX1_letGo 5 = .ok (.iconst 0, 1) := by decide +kernel
theorem dX1_letGo_6 : decode cX1_letGo 6 = .ok (.iastore, 1) := by decide +kernel
theorem dX1_letGo_7 : decode cX1_letGo 7 = .ok (.aload_n 0, 1) := by decide +kernel
theorem dX1_letGo_8 : decode cX1_letGo 8 = .ok (.getfield 25, 3) := by decide +kernel
theorem dX1_letGo_11 : decode cX1_letGo 11 = .ok (.aload_n 0, 1) := by decide +kernel
theorem dX1_letGo_12 : decode cX1_letGo 12 = .ok (.getfield 47, 3) := by decide +kernel
theorem dX1_letGo_15 : decode cX1_letGo 15 = .ok (.iload_n 1, 1) := by decide +kernel
theorem dX1_letGo_16 : decode cX1_letGo 16 = .ok (.iastore, 1) := by decide +kernel
theorem dX1_letGo_17 : decode cX1_letGo 17 = .ok (.aload_n 0, 1) := by decide +kernel
theorem dX1_letGo_18 : decode cX1_letGo 18 = .ok (.dup, 1) := by decide +kernel
theorem dX1_letGo_19 : decode cX1_letGo 19 = .ok (.getfield 47, 3) := by decide +kernel
theorem dX1_letGo_22 : decode cX1_letGo 22 = .ok (.iconst 1, 1) := by decide +kernel
theorem dX1_letGo_23 : decode cX1_letGo 23 = .ok (.iadd, 1) := by decide +kernel
theorem dX1_letGo_24 : decode cX1_letGo 24 = .ok (.putfield 47, 3) := by decide +kernel
theorem dX1_letGo_27 : decode cX1_letGo 27 = .ok (.return_, 1) := by decide +kernel
end
section
set_option maxRecDepth 100000
abbrev cX1_alone : ByteArray := prog_3_method_11_code
def yX1_alone : MethodName := ⟨RX1, "alone", "(I)V"⟩
theorem dX1_alone_0 : decode cX1_alone 0 = .ok (.aload_n 0, 1) := by decide +kernel
theorem dX1_alone_1 : decode cX1_alone 1 = .ok (.getfield 13, 3) := by decide +kernel
theorem dX1_alone_4 : decode cX1_alone 4 = .ok (.iload_n 1, 1) := by decide +kernel
theorem dX1_alone_5 : decode cX1_alone 5 = .ok (.iconst (-1), 1) := by decide +kernel
theorem dX1_alone_6 : decode cX1_alone 6 = .ok (.iastore, 1) := by decide +kernel
theorem dX1_alone_7 : decode cX1_alone 7 = .ok (.aload_n 0, 1) := by decide +kernel
theorem dX1_alone_8 : decode cX1_alone 8 = .ok (.getfield 16, 3) := by decide +kernel
theorem dX1_alone_11 : decode cX1_alone 11 = .ok (.iload_n 1, 1) := by decide +kernel
theorem dX1_alone_12 : decode cX1_alone 12 = .ok (.iconst (-1), 1) := by decide +kernel
theorem dX1_alone_13 : decode cX1_alone 13 = .ok (.iastore, 1) := by decide +kernel
theorem dX1_alone_14 : decode cX1_alone 14 = .ok (.aload_n 0, 1) := by decide +kernel
theorem dX1_alone_15 : decode cX1_alone 15 = .ok (.getfield 19, 3) := by decide +kernel
theorem dX1_alone_18 : decode cX1_alone 18 = .ok (.iload_n 1, 1) := by decide +kernel
theorem dX1_alone_19 : decode cX1_alone 19 = .ok (.iconst 1, 1) := by decide +kernel
theorem dX1_alone_20 : decode cX1_alone 20 = .ok (.iastore, 1) := by decide +kernel
theorem dX1_alone_21 : decode cX1_alone 21 = .ok (.return_, 1) := by decide +kernel
abbrev cX1_joinRow : ByteArray := prog_3_method_9_code
def yX1_joinRow : MethodName := ⟨RX1, "joinRow", "()I"⟩
theorem dX1_joinRow_0 : decode cX1_joinRow 0 = .ok (.aload_n 0, 1) := by decide +kernel
theorem dX1_joinRow_1 : decode cX1_joinRow 1 = .ok (.getfield 62, 3) := by decide +kernel
theorem dX1_joinRow_4 : decode cX1_joinRow 4 = .ok (.iconst 1, 1) := by decide +kernel
theorem dX1_joinRow_5 : decode cX1_joinRow 5 = .ok (.if_icmp .le 76, 3) := by decide +kernel
theorem dX1_joinRow_8 : decode cX1_joinRow 8 = .ok (.iconst 0, 1) := by decide +kernel
theorem dX1_joinRow_9 : decode cX1_joinRow 9 = .ok (.istore_n 1, 1) := by decide +kernel
theorem dX1_joinRow_10 : decode cX1_joinRow 10 = .ok (.iconst 0, 1) := by decide +kernel
theorem dX1_joinRow_11 : decode cX1_joinRow 11 = .ok (.istore_n 2, 1) := by decide +kernel
theorem dX1_joinRow_12 : decode cX1_joinRow 12 = .ok (.iload_n 2, 1) := by decide +kernel
theorem dX1_joinRow_13 : decode cX1_joinRow 13 = .ok (.aload_n 0, 1) := by decide +kernel
theorem dX1_joinRow_14 : decode cX1_joinRow 14 = .ok (.getfield 62, 3) := by decide +kernel
theorem dX1_joinRow_17 : decode cX1_joinRow 17 = .ok (.if_icmp .ge 56, 3) := by decide +kernel
theorem dX1_joinRow_20 : decode cX1_joinRow 20 = .ok (.aload_n 0, 1) := by decide +kernel
theorem dX1_joinRow_21 : decode cX1_joinRow 21 = .ok (.getfield 37, 3) := by decide +kernel
theorem dX1_joinRow_24 : decode cX1_joinRow 24 = .ok (.iload_n 1, 1) := by decide +kernel
theorem dX1_joinRow_25 : decode cX1_joinRow 25 = .ok (.iload_n 2, 1) := by decide +kernel
theorem dX1_joinRow_26 : decode cX1_joinRow 26 = .ok (.iconst 1, 1) := by decide +kernel
theorem dX1_joinRow_27 : decode cX1_joinRow 27 = .ok (.iadd, 1) := by decide +kernel
theorem dX1_joinRow_28 : decode cX1_joinRow 28 = .ok (.aload_n 0, 1) := by decide +kernel
theorem dX1_joinRow_29 : decode cX1_joinRow 29 = .ok (.getfield 62, 3) := by decide +kernel
theorem dX1_joinRow_32 : decode cX1_joinRow 32 = .ok (.if_icmp .ge 24, 3) := by decide +kernel
theorem dX1_joinRow_35 : decode cX1_joinRow 35 = .ok (.aload_n 0, 1) := by decide +kernel
theorem dX1_joinRow_36 : decode cX1_joinRow 36 = .ok (.aload_n 0, 1) := by decide +kernel
theorem dX1_joinRow_37 : decode cX1_joinRow 37 = .ok (.getfield 37, 3) := by decide +kernel
theorem dX1_joinRow_40 : decode cX1_joinRow 40 = .ok (.iload_n 2, 1) := by decide +kernel
theorem dX1_joinRow_41 : decode cX1_joinRow 41 = .ok (.iaload, 1) := by decide +kernel
theorem dX1_joinRow_42 : decode cX1_joinRow 42 = .ok (.aload_n 0, 1) := by decide +kernel
theorem dX1_joinRow_43 : decode cX1_joinRow 43 = .ok (.getfield 37, 3) := by decide +kernel
theorem dX1_joinRow_46 : decode cX1_joinRow 46 = .ok (.iload_n 2, 1) := by decide +kernel
theorem dX1_joinRow_47 : decode cX1_joinRow 47 = .ok (.iconst 1, 1) := by decide +kernel
theorem dX1_joinRow_48 : decode cX1_joinRow 48 = .ok (.iadd, 1) := by decide +kernel
theorem dX1_joinRow_49 : decode cX1_joinRow 49 = .ok (.iaload, 1) := by decide +kernel
theorem dX1_joinRow_50 : decode cX1_joinRow 50 = .ok (.invokevirtual 65, 3) := by decide +kernel
theorem dX1_joinRow_53 : decode cX1_joinRow 53 = .ok (.goto 9, 3) := by decide +kernel
theorem dX1_joinRow_56 : decode cX1_joinRow 56 = .ok (.aload_n 0, 1) := by decide +kernel
theorem dX1_joinRow_57 : decode cX1_joinRow 57 = .ok (.getfield 37, 3) := by decide +kernel
theorem dX1_joinRow_60 : decode cX1_joinRow 60 = .ok (.iload_n 2, 1) := by decide +kernel
theorem dX1_joinRow_61 : decode cX1_joinRow 61 = .ok (.iaload, 1) := by decide +kernel
theorem dX1_joinRow_62 : decode cX1_joinRow 62 = .ok (.iastore, 1) := by decide +kernel
theorem dX1_joinRow_63 : decode cX1_joinRow 63 = .ok (.iinc 1 1, 3) := by decide +kernel
theorem dX1_joinRow_66 : decode cX1_joinRow 66 = .ok (.iload_n 2, 1) := by decide +kernel
theorem dX1_joinRow_67 : decode cX1_joinRow 67 = .ok (.iconst 2, 1) := by decide +kernel
theorem dX1_joinRow_68 : decode cX1_joinRow 68 = .ok (.iadd, 1) := by decide +kernel
theorem dX1_joinRow_69 : decode cX1_joinRow 69 = .ok (.istore_n 2, 1) := by decide +kernel
theorem dX1_joinRow_70 : decode cX1_joinRow 70 = .ok (.goto (-58), 3) := by decide +kernel
theorem dX1_joinRow_73 : decode cX1_joinRow 73 = .ok (.aload_n 0, 1) := by decide +kernel
theorem dX1_joinRow_74 : decode cX1_joinRow 74 = .ok (.iload_n 1, 1) := by decide +kernel
theorem dX1_joinRow_75 : decode cX1_joinRow 75 = .ok (.putfield 62, 3) := by decide +kernel
theorem dX1_joinRow_78 : decode cX1_joinRow 78 = .ok (.goto (-78), 3) := by decide +kernel
theorem dX1_joinRow_81 : decode cX1_joinRow 81 = .ok (.aload_n 0, 1) := by decide +kernel
theorem dX1_joinRow_82 : decode cX1_joinRow 82 = .ok (.getfield 62, 3) := by decide +kernel
theorem dX1_joinRow_85 : decode cX1_joinRow 85 = .ok (.ifCond .ne 7, 3) := by decide +kernel
theorem dX1_joinRow_88 : decode cX1_joinRow 88 = .ok (.iconst (-1), 1) := by decide +kernel
theorem dX1_joinRow_89 : decode cX1_joinRow 89 = .ok (.goto 9, 3) := by decide +kernel
theorem dX1_joinRow_92 : decode cX1_joinRow 92 = .ok (.aload_n 0, 1) := by decide +kernel
theorem dX1_joinRow_93 : decode cX1_joinRow 93 = .ok (.getfield 37, 3) := by decide +kernel
theorem dX1_joinRow_96 : decode cX1_joinRow 96 = .ok (.iconst 0, 1) := by decide +kernel
theorem dX1_joinRow_97 : decode cX1_joinRow 97 = .ok (.iaload, 1) := by decide +kernel
theorem dX1_joinRow_98 : decode cX1_joinRow 98 = .ok (.ireturn, 1) := by decide +kernel
abbrev cX1_join : ByteArray := prog_3_method_8_code
def yX1_join : MethodName := ⟨RX1, "join", "(II)I"⟩
theorem dX1_join_0 : decode cX1_join 0 = .ok (.iload_n 1, 1) := by decide +kernel
theorem dX1_join_1 : decode cX1_join 1 = .ok (.istore_n 3, 1) := by decide +kernel
theorem dX1_join_2 : decode cX1_join 2 = .ok (.iload_n 2, 1) := by decide +kernel
theorem dX1_join_3 : decode cX1_join 3 = .ok (.istore 4, 2) := by decide +kernel
theorem dX1_join_5 : decode cX1_join 5 = .ok (.iconst 0, 1) := by decide +kernel
theorem dX1_join_6 : decode cX1_join 6 = .ok (.istore 5, 2) := by decide +kernel
theorem dX1_join_8 : decode cX1_join 8 = .ok (.iload_n 3, 1) := by decide +kernel
theorem dX1_join_9 : decode cX1_join 9 = .ok (.ifCond .lt 60, 3) := by decide +kernel
theorem dX1_join_12 : decode cX1_join 12 = .ok (.iload 4, 2) := by decide +kernel
theorem dX1_join_14 : decode cX1_join 14 = .ok (.ifCond .lt 55, 3) := by decide +kernel
theorem dX1_join_17 : decode cX1_join 17 = .ok (.aload_n 0, 1) := by decide +kernel
theorem dX1_join_18 : decode cX1_join 18 = .ok (.iload_n 3, 1) := by decide +kernel
theorem dX1_join_19 : decode cX1_join 19 = .ok (.iload 4, 2) := by decide +kernel
theorem dX1_join_21 : decode cX1_join 21 = .ok (.invokevirtual 54, 3) := by decide +kernel
theorem dX1_join_24 : decode cX1_join 24 = .ok (.ifCond .eq 21, 3) := by decide +kernel
theorem dX1_join_27 : decode cX1_join 27 = .ok (.aload_n 0, 1) := by decide +kernel
theorem dX1_join_28 : decode cX1_join 28 = .ok (.getfield 34, 3) := by decide +kernel
theorem dX1_join_31 : decode cX1_join 31 = .ok (.iload 5, 2) := by decide +kernel
theorem dX1_join_33 : decode cX1_join 33 = .ok (.iload_n 3, 1) := by decide +kernel
theorem dX1_join_34 : decode cX1_join 34 = .ok (.iastore, 1) := by decide +kernel
theorem dX1_join_35 : decode cX1_join 35 = .ok (.aload_n 0, 1) := by decide +kernel
theorem dX1_join_36 : decode cX1_join 36 = .ok (.getfield 16, 3) := by decide +kernel
theorem dX1_join_39 : decode cX1_join 39 = .ok (.iload_n 3, 1) := by decide +kernel
theorem dX1_join_40 : decode cX1_join 40 = .ok (.iaload, 1) := by decide +kernel
theorem dX1_join_41 : decode cX1_join 41 = .ok (.istore_n 3, 1) := by decide +kernel
theorem dX1_join_42 : decode cX1_join 42 = .ok (.goto 21, 3) := by decide +kernel
theorem dX1_join_45 : decode cX1_join 45 = .ok (.aload_n 0, 1) := by decide +kernel
theorem dX1_join_46 : decode cX1_join 46 = .ok (.getfield 34, 3) := by decide +kernel
theorem dX1_join_49 : decode cX1_join 49 = .ok (.iload 5, 2) := by decide +kernel
theorem dX1_join_51 : decode cX1_join 51 = .ok (.iload 4, 2) := by decide +kernel
theorem dX1_join_53 : decode cX1_join 53 = .ok (.iastore, 1) := by decide +kernel
theorem dX1_join_54 : decode cX1_join 54 = .ok (.aload_n 0, 1) := by decide +kernel
theorem dX1_join_55 : decode cX1_join 55 = .ok (.getfield 16, 3) := by decide +kernel
theorem dX1_join_58 : decode cX1_join 58 = .ok (.iload 4, 2) := by decide +kernel
theorem dX1_join_60 : decode cX1_join 60 = .ok (.iaload, 1) := by decide +kernel
theorem dX1_join_61 : decode cX1_join 61 = .ok (.istore 4, 2) := by decide +kernel
theorem dX1_join_63 : decode cX1_join 63 = .ok (.iinc 5 1, 3) := by decide +kernel
theorem dX1_join_66 : decode cX1_join 66 = .ok (.goto (-58), 3) := by decide +kernel
theorem dX1_join_69 : decode cX1_join 69 = .ok (.iload_n 3, 1) := by decide +kernel
theorem dX1_join_70 : decode cX1_join 70 = .ok (.ifCond .lt 7, 3) := by decide +kernel
theorem dX1_join_73 : decode cX1_join 73 = .ok (.iload_n 3, 1) := by decide +kernel
theorem dX1_join_74 : decode cX1_join 74 = .ok (.goto 5, 3) := by decide +kernel
theorem dX1_join_77 : decode cX1_join 77 = .ok (.iload 4, 2) := by decide +kernel
theorem dX1_join_79 : decode cX1_join 79 = .ok (.istore 6, 2) := by decide +kernel
theorem dX1_join_81 : decode cX1_join 81 = .ok (.iload 5, 2) := by decide +kernel
theorem dX1_join_83 : decode cX1_join 83 = .ok (.iconst 1, 1) := by decide +kernel
theorem dX1_join_84 : decode cX1_join 84 = .ok (.isub, 1) := by decide +kernel
theorem dX1_join_85 : decode cX1_join 85 = .ok (.istore 7, 2) := by decide +kernel
theorem dX1_join_87 : decode cX1_join 87 = .ok (.iload 7, 2) := by decide +kernel
theorem dX1_join_89 : decode cX1_join 89 = .ok (.ifCond .lt 108, 3) := by decide +kernel
theorem dX1_join_92 : decode cX1_join 92 = .ok (.aload_n 0, 1) := by decide +kernel
theorem dX1_join_93 : decode cX1_join 93 = .ok (.getfield 34, 3) := by decide +kernel
theorem dX1_join_96 : decode cX1_join 96 = .ok (.iload 7, 2) := by decide +kernel
theorem dX1_join_98 : decode cX1_join 98 = .ok (.iaload, 1) := by decide +kernel
theorem dX1_join_99 : decode cX1_join 99 = .ok (.istore 8, 2) := by decide +kernel
theorem dX1_join_101 : decode cX1_join 101 = .ok (.aload_n 0, 1) := by decide +kernel
theorem dX1_join_102 : decode cX1_join 102 = .ok (.getfield 16, 3) := by decide +kernel
theorem dX1_join_105 : decode cX1_join 105 = .ok (.iload 8, 2) := by decide +kernel
theorem dX1_join_107 : decode cX1_join 107 = .ok (.iload 6, 2) := by decide +kernel
theorem dX1_join_109 : decode cX1_join 109 = .ok (.iastore, 1) := by decide +kernel
theorem dX1_join_110 : decode cX1_join 110 = .ok (.aload_n 0, 1) := by decide +kernel
theorem dX1_join_111 : decode cX1_join 111 = .ok (.aload_n 0, 1) := by decide +kernel
theorem dX1_join_112 : decode cX1_join 112 = .ok (.getfield 16, 3) := by decide +kernel
theorem dX1_join_115 : decode cX1_join 115 = .ok (.iload 8, 2) := by decide +kernel
theorem dX1_join_117 : decode cX1_join 117 = .ok (.iaload, 1) := by decide +kernel
theorem dX1_join_118 : decode cX1_join 118 = .ok (.invokevirtual 58, 3) := by decide +kernel
theorem dX1_join_121 : decode cX1_join 121 = .ok (.aload_n 0, 1) := by decide +kernel
theorem dX1_join_122 : decode cX1_join 122 = .ok (.aload_n 0, 1) := by decide +kernel
theorem dX1_join_123 : decode cX1_join 123 = .ok (.getfield 13, 3) := by decide +kernel
theorem dX1_join_126 : decode cX1_join 126 = .ok (.iload 8, 2) := by decide +kernel
theorem dX1_join_128 : decode cX1_join 128 = .ok (.iaload, 1) := by decide +kernel
theorem dX1_join_129 : decode cX1_join 129 = .ok (.invokevirtual 58, 3) := by decide +kernel
theorem dX1_join_132 : decode cX1_join 132 = .ok (.if_icmp .le 35, 3) := by decide +kernel
theorem dX1_join_135 : decode cX1_join 135 = .ok (.aload_n 0, 1) := by decide +kernel
theorem dX1_join_136 : decode cX1_join 136 = .ok (.getfield 13, 3) := by decide +kernel
theorem dX1_join_139 : decode cX1_join 139 = .ok (.iload 8, 2) := by decide +kernel
theorem dX1_join_141 : decode cX1_join 141 = .ok (.iaload, 1) := by decide +kernel
theorem dX1_join_142 : decode cX1_join 142 = .ok (.istore 9, 2) := by decide +kernel
theorem dX1_join_144 : decode cX1_join 144 = .ok (.aload_n 0, 1) := by decide +kernel
theorem dX1_join_145 : decode cX1_join 145 = .ok (.getfield 13, 3) := by decide +kernel
theorem dX1_join_148 : decode cX1_join 148 = .ok (.iload 8, 2) := by decide +kernel
theorem dX1_join_150 : decode cX1_join 150 = .ok (.aload_n 0, 1) := by decide +kernel
theorem dX1_join_151 : decode cX1_join 151 = .ok (.getfield 16, 3) := by decide +kernel
theorem dX1_join_154 : decode cX1_join 154 = .ok (.iload 8, 2) := by decide +kernel
theorem dX1_join_156 : decode cX1_join 156 = .ok (.iaload, 1) := by decide +kernel
theorem dX1_join_157 : decode cX1_join 157 = .ok (.iastore, 1) := by decide +kernel
theorem dX1_join_158 : decode cX1_join 158 = .ok (.aload_n 0, 1) := by decide +kernel
theorem dX1_join_159 : decode cX1_join 159 = .ok (.getfield 16, 3) := by decide +kernel
theorem dX1_join_162 : decode cX1_join 162 = .ok (.iload 8, 2) := by decide +kernel
theorem dX1_join_164 : decode cX1_join 164 = .ok (.iload 9, 2) := by decide +kernel
theorem dX1_join_166 : decode cX1_join 166 = .ok (.iastore, 1) := by decide +kernel
theorem dX1_join_167 : decode cX1_join 167 = .ok (.aload_n 0, 1) := by decide +kernel
theorem dX1_join_168 : decode cX1_join 168 = .ok (.getfield 19, 3) := by decide +kernel
theorem dX1_join_171 : decode cX1_join 171 = .ok (.iload 8, 2) := by decide +kernel
theorem dX1_join_173 : decode cX1_join 173 = .ok (.iconst 1, 1) := by decide +kernel
theorem dX1_join_174 : decode cX1_join 174 = .ok (.aload_n 0, 1) := by decide +kernel
theorem dX1_join_175 : decode cX1_join 175 = .ok (.aload_n 0, 1) := by decide +kernel
theorem dX1_join_176 : decode cX1_join 176 = .ok (.getfield 16, 3) := by decide +kernel
theorem dX1_join_179 : decode cX1_join 179 = .ok (.iload 8, 2) := by decide +kernel
theorem dX1_join_181 : decode cX1_join 181 = .ok (.iaload, 1) := by decide +kernel
theorem dX1_join_182 : decode cX1_join 182 = .ok (.invokevirtual 58, 3) := by decide +kernel
theorem dX1_join_185 : decode cX1_join 185 = .ok (.iadd, 1) := by decide +kernel
theorem dX1_join_186 : decode cX1_join 186 = .ok (.iastore, 1) := by decide +kernel
theorem dX1_join_187 : decode cX1_join 187 = .ok (.iload 8, 2) := by decide +kernel
theorem dX1_join_189 : decode cX1_join 189 = .ok (.istore 6, 2) := by decide +kernel
theorem dX1_join_191 : decode cX1_join 191 = .ok (.iinc 7 (-1), 3) := by decide +kernel
theorem dX1_join_194 : decode cX1_join 194 = .ok (.goto (-107), 3) := by decide +kernel
theorem dX1_join_197 : decode cX1_join 197 = .ok (.iload 6, 2) := by decide +kernel
theorem dX1_join_199 : decode cX1_join 199 = .ok (.ireturn, 1) := by decide +kernel
abbrev cX1_isBefore : ByteArray := prog_3_method_6_code
def yX1_isBefore : MethodName := ⟨RX1, "isBefore", "(II)Z"⟩
theorem dX1_isBefore_0 : decode cX1_isBefore 0 = .ok (.aload_n 0, 1) := by decide +kernel
theorem dX1_isBefore_1 : decode cX1_isBefore 1 = .ok (.getfield 7, 3) := by decide +kernel
theorem dX1_isBefore_4 : decode cX1_isBefore 4 = .ok (.iload_n 1, 1) := by decide +kernel
theorem dX1_isBefore_5 : decode cX1_isBefore 5 = .ok (.iaload, 1) := by decide +kernel
theorem dX1_isBefore_6 : decode cX1_isBefore 6 = .ok (.aload_n 0, 1) := by decide +kernel
theorem dX1_isBefore_7 : decode cX1_isBefore 7 = .ok (.getfield 7, 3) := by decide +kernel
theorem dX1_isBefore_10 : decode cX1_isBefore 10 = .ok (.iload_n 2, 1) := by decide +kernel
theorem dX1_isBefore_11 : decode cX1_isBefore 11 = .ok (.iaload, 1) := by decide +kernel
theorem dX1_isBefore_12 : decode cX1_isBefore 12 = .ok (.if_icmp .eq 26, 3) := by decide +kernel
theorem dX1_isBefore_15 : decode cX1_isBefore 15 = .ok (.aload_n 0, 1) := by decide +kernel
theorem dX1_isBefore_16 : decode cX1_isBefore 16 = .ok (.getfield 7, 3) := by decide +kernel
theorem dX1_isBefore_19 : decode cX1_isBefore 19 = .ok (.iload_n 1, 1) := by decide +kernel
theorem dX1_isBefore_20 : decode cX1_isBefore 20 = .ok (.iaload, 1) := by decide +kernel
theorem dX1_isBefore_21 : decode cX1_isBefore 21 = .ok (.aload_n 0, 1) := by decide +kernel
theorem dX1_isBefore_22 : decode cX1_isBefore 22 = .ok (.getfield 7, 3) := by decide +kernel
theorem dX1_isBefore_25 : decode cX1_isBefore 25 = .ok (.iload_n 2, 1) := by decide +kernel
theorem dX1_isBefore_26 : decode cX1_isBefore 26 = .ok (.iaload, 1) := by decide +kernel
theorem dX1_isBefore_27 : decode cX1_isBefore 27 = .ok (.if_icmp .ge 7, 3) := by decide +kernel
theorem dX1_isBefore_30 : decode cX1_isBefore 30 = .ok (.iconst 1, 1) := by decide +kernel
theorem dX1_isBefore_31 : decode cX1_isBefore 31 = .ok (.goto 17, 3) := by decide +kernel
theorem dX1_isBefore_34 : decode cX1_isBefore 34 = .ok (.iconst 0, 1) := by decide +kernel
theorem dX1_isBefore_35 : decode cX1_isBefore 35 = .ok (.goto 13, 3) := by decide +kernel
theorem dX1_isBefore_38 : decode cX1_isBefore 38 = .ok (.iload_n 1, 1) := by decide +kernel
theorem dX1_isBefore_39 : decode cX1_isBefore 39 = .ok (.iload_n 2, 1) := by decide +kernel
theorem dX1_isBefore_40 : decode cX1_isBefore 40 = .ok (.if_icmp .ge 7, 3) := by decide +kernel
theorem dX1_isBefore_43 : decode cX1_isBefore 43 = .ok (.iconst 1, 1) := by decide +kernel
theorem dX1_isBefore_44 : decode cX1_isBefore 44 = .ok (.goto 4, 3) := by decide +kernel
theorem dX1_isBefore_47 : decode cX1_isBefore 47 = .ok (.iconst 0, 1) := by decide +kernel
theorem dX1_isBefore_48 : decode cX1_isBefore 48 = .ok (.ireturn, 1) := by decide +kernel
abbrev cX1_rankOf : ByteArray := prog_3_method_5_code
def yX1_rankOf : MethodName := ⟨RX1, "rankOf", "(I)I"⟩
theorem dX1_rankOf_0 : decode cX1_rankOf 0 = .ok (.iload_n 1, 1) := by decide +kernel
theorem dX1_rankOf_1 : decode cX1_rankOf 1 = .ok (.ifCond .ge 7, 3) := by decide +kernel
theorem dX1_rankOf_4 : decode cX1_rankOf 4 = .ok (.iconst 0, 1) := by decide +kernel
theorem dX1_rankOf_5 : decode cX1_rankOf 5 = .ok (.goto 9, 3) := by decide +kernel
theorem dX1_rankOf_8 : decode cX1_rankOf 8 = .ok (.aload_n 0, 1) := by decide +kernel
theorem dX1_rankOf_9 : decode cX1_rankOf 9 = .ok (.getfield 19, 3) := by decide +kernel
theorem dX1_rankOf_12 : decode cX1_rankOf 12 = .ok (.iload_n 1, 1) := by decide +kernel
theorem dX1_rankOf_13 : decode cX1_rankOf 13 = .ok (.iaload, 1) := by decide +kernel
theorem dX1_rankOf_14 : decode cX1_rankOf 14 = .ok (.ireturn, 1) := by decide +kernel
abbrev cX1_delete : ByteArray := prog_3_method_16_code
def yX1_delete : MethodName := ⟨RX1, "delete", "(I)I"⟩
theorem dX1_delete_0 : decode cX1_delete 0 = .ok (.iload_n 1, 1) := by decide +kernel
theorem dX1_delete_1 : decode cX1_delete 1 = .ok (.iconst 0, 1) := by decide +kernel
theorem dX1_delete_2 : decode cX1_delete 2 = .ok (.bipush 59, 2) := by decide +kernel
theorem dX1_delete_4 : decode cX1_delete 4 = .ok (.invokestatic 50, 3) := by decide +kernel
theorem dX1_delete_7 : decode cX1_delete 7 = .ok (.ifCond .eq 13, 3) := by decide +kernel
theorem dX1_delete_10 : decode cX1_delete 10 = .ok (.aload_n 0, 1) := by decide +kernel
theorem dX1_delete_11 : decode cX1_delete 11 = .ok (.getfield 22, 3) := by decide +kernel
theorem dX1_delete_14 : decode cX1_delete 14 = .ok (.iload_n 1, 1) := by decide +kernel
theorem dX1_delete_15 : decode cX1_delete 15 = .ok (.iaload, 1) := by decide +kernel
theorem dX1_delete_16 : decode cX1_delete 16 = .ok (.iconst 1, 1) := by decide +kernel
theorem dX1_delete_17 : decode cX1_delete 17 = .ok (.if_icmp .eq 5, 3) := by decide +kernel
theorem dX1_delete_20 : decode cX1_delete 20 = .ok (.iconst (-1), 1) := by decide +kernel
theorem dX1_delete_21 : decode cX1_delete 21 = .ok (.ireturn, 1) := by decide +kernel
theorem dX1_delete_22 : decode cX1_delete 22 = .ok (.aload_n 0, 1) := by decide +kernel
theorem dX1_delete_23 : decode cX1_delete 23 = .ok (.getfield 22, 3) := by decide +kernel
theorem dX1_delete_26 : decode cX1_delete 26 = .ok (.iload_n 1, 1) := by decide +kernel
theorem dX1_delete_27 : decode cX1_delete 27 = .ok (.iconst 2, 1) := by decide +kernel
theorem dX1_delete_28 : decode cX1_delete 28 = .ok (.iastore, 1) := by decide +kernel
theorem dX1_delete_29 : decode cX1_delete 29 = .ok (.iconst 0, 1) := by decide +kernel
theorem dX1_delete_30 : decode cX1_delete 30 = .ok (.ireturn, 1) := by decide +kernel
abbrev cX1_findMin : ByteArray := prog_3_method_17_code
def yX1_findMin : MethodName := ⟨RX1, "findMin", "(I)I"⟩
theorem dX1_findMin_0 : decode cX1_findMin 0 = .ok (.aload_n 0, 1) := by decide +kernel
theorem dX1_findMin_1 : decode cX1_findMin 1 = .ok (.iload_n 1, 1) := by decide +kernel
theorem dX1_findMin_2 : decode cX1_findMin 2 = .ok (.invokevirtual 84, 3) := by decide +kernel
theorem dX1_findMin_5 : decode cX1_findMin 5 = .ok (.ifCond .ne 5, 3) := by decide +kernel
theorem dX1_findMin_8 : decode cX1_findMin 8 = .ok (.iconst (-1), 1) := by decide +kernel
theorem dX1_findMin_9 : decode cX1_findMin 9 = .ok (.ireturn, 1) := by decide +kernel
theorem dX1_findMin_10 : decode cX1_findMin 10 = .ok (.aload_n 0, 1) := by decide +kernel
theorem dX1_findMin_11 : decode cX1_findMin 11 = .ok (.getfield 28, 3) := by decide +kernel
theorem dX1_findMin_14 : decode cX1_findMin 14 = .ok (.iload_n 1, 1) := by decide +kernel
theorem dX1_findMin_15 : decode cX1_findMin 15 = .ok (.iaload, 1) := by decide +kernel
theorem dX1_findMin_16 : decode cX1_findMin 16 = .ok (.ifCond .lt 24, 3) := by decide +kernel
theorem dX1_findMin_19 : decode cX1_findMin 19 = .ok (.aload_n 0, 1) := by decide +kernel
theorem dX1_findMin_20 : decode cX1_findMin 20 = .ok (.getfield 22, 3) := by decide +kernel
theorem dX1_findMin_23 : decode cX1_findMin 23 = .ok (.aload_n 0, 1) := by decide +kernel
theorem dX1_findMin_24 : decode cX1_findMin 24 = .ok (.getfield 28, 3) := by decide +kernel
theorem dX1_findMin_27 : decode cX1_findMin 27 = .ok (.iload_n 1, 1) := by decide +kernel
theorem dX1_findMin_28 : decode cX1_findMin 28 = .ok (.iaload, 1) := by decide +kernel
theorem dX1_findMin_29 : decode cX1_findMin 29 = .ok (.iaload, 1) := by decide +kernel
theorem dX1_findMin_30 : decode cX1_findMin 30 = .ok (.iconst 2, 1) := by decide +kernel
theorem dX1_findMin_31 : decode cX1_findMin 31 = .ok (.if_icmp .ne 9, 3) := by decide +kernel
theorem dX1_findMin_34 : decode cX1_findMin 34 = .ok (.aload_n 0, 1) := by decide +kernel
theorem dX1_findMin_35 : decode cX1_findMin 35 = .ok (.iload_n 1, 1) := by decide +kernel
theorem dX1_findMin_36 : decode cX1_findMin 36 = .ok (.iconst 0, 1) := by decide +kernel
theorem dX1_findMin_37 : decode cX1_findMin 37 = .ok (.invokevirtual 91, 3) := by decide +kernel
theorem dX1_findMin_40 : decode cX1_findMin 40 = .ok (.aload_n 0, 1) := by decide +kernel
theorem dX1_findMin_41 : decode cX1_findMin 41 = .ok (.getfield 28, 3) := by decide +kernel
theorem dX1_findMin_44 : decode cX1_findMin 44 = .ok (.iload_n 1, 1) := by decide +kernel
theorem dX1_findMin_45 : decode cX1_findMin 45 = .ok (.iaload, 1) := by decide +kernel
theorem dX1_findMin_46 : decode cX1_findMin 46 = .ok (.ireturn, 1) := by decide +kernel
abbrev cX1_deleteMin : ByteArray := prog_3_method_18_code
def yX1_deleteMin : MethodName := ⟨RX1, "deleteMin", "(I)I"⟩
theorem dX1_deleteMin_0 : decode cX1_deleteMin 0 = .ok (.aload_n 0, 1) := by decide +kernel
theorem dX1_deleteMin_1 : decode cX1_deleteMin 1 = .ok (.iload_n 1, 1) := by decide +kernel
theorem dX1_deleteMin_2 : decode cX1_deleteMin 2 = .ok (.invokevirtual 94, 3) := by decide +kernel
theorem dX1_deleteMin_5 : decode cX1_deleteMin 5 = .ok (.istore_n 2, 1) := by decide +kernel
theorem dX1_deleteMin_6 : decode cX1_deleteMin 6 = .ok (.iload_n 2, 1) := by decide +kernel
theorem dX1_deleteMin_7 : decode cX1_deleteMin 7 = .ok (.ifCond .lt 30, 3) := by decide +kernel
theorem dX1_deleteMin_10 : decode cX1_deleteMin 10 = .ok (.aload_n 0, 1) := by decide +kernel
theorem dX1_deleteMin_11 : decode cX1_deleteMin 11 = .ok (.iload_n 2, 1) := by decide +kernel
theorem dX1_deleteMin_12 : decode cX1_deleteMin 12 = .ok (.invokevirtual 69, 3) := by decide +kernel
theorem dX1_deleteMin_15 : decode cX1_deleteMin 15 = .ok (.aload_n 0, 1) := by decide +kernel
theorem dX1_deleteMin_16 : decode cX1_deleteMin 16 = .ok (.getfield 28, 3) := by decide +kernel
theorem dX1_deleteMin_19 : decode cX1_deleteMin 19 = .ok (.iload_n 1, 1) := by decide +kernel
theorem dX1_deleteMin_20 : decode cX1_deleteMin 20 = .ok (.aload_n 0, 1) := by decide +kernel
theorem dX1_deleteMin_21 : decode cX1_deleteMin 21 = .ok (.aload_n 0, 1) := by decide +kernel
theorem dX1_deleteMin_22 : decode cX1_deleteMin 22 = .ok (.getfield 13, 3) := by decide +kernel
theorem dX1_deleteMin_25 : decode cX1_deleteMin 25 = .ok (.iload_n 2, 1) := by decide +kernel
theorem dX1_deleteMin_26 : decode cX1_deleteMin 26 = .ok (.iaload, 1) := by decide +kernel
theorem dX1_deleteMin_27 : decode cX1_deleteMin 27 = .ok (.aload_n 0, 1) := by decide +kernel
theorem dX1_deleteMin_28 : decode cX1_deleteMin 28 = .ok (.getfield 16, 3) := by decide +kernel
theorem dX1_deleteMin_31 : decode cX1_deleteMin 31 = .ok (.iload_n 2, 1) := by decide +kernel
theorem dX1_deleteMin_32 : decode cX1_deleteMin 32 = .ok (.iaload, 1) := by decide +kernel
theorem dX1_deleteMin_33 : decode cX1_deleteMin 33 = .ok (.invokevirtual 65, 3) := by decide +kernel
theorem dX1_deleteMin_36 : decode cX1_deleteMin 36 = .ok (.iastore, 1) := by decide +kernel
theorem dX1_deleteMin_37 : decode cX1_deleteMin 37 = .ok (.iload_n 2, 1) := by decide +kernel
theorem dX1_deleteMin_38 : decode cX1_deleteMin 38 = .ok (.ireturn, 1) := by decide +kernel
abbrev cX1_meld : ByteArray := prog_3_method_19_code
def yX1_meld : MethodName := ⟨RX1, "meld", "(II)I"⟩
theorem dX1_meld_0 : decode cX1_meld 0 = .ok (.aload_n 0, 1) := by decide +kernel
theorem dX1_meld_1 : decode cX1_meld 1 = .ok (.iload_n 1, 1) := by decide +kernel
theorem dX1_meld_2 : decode cX1_meld 2 = .ok (.invokevirtual 84, 3) := by decide +kernel
theorem dX1_meld_5 : decode cX1_meld 5 = .ok (.ifCond .eq 16, 3) := by decide +kernel
theorem dX1_meld_8 : decode cX1_meld 8 = .ok (.aload_n 0, 1) := by decide +kernel
theorem dX1_meld_9 : decode cX1_meld 9 = .ok (.iload_n 2, 1) := by decide +kernel
theorem dX1_meld_10 : decode cX1_meld 10 = .ok (.invokevirtual 84, 3) := by decide +kernel
theorem dX1_meld_13 : decode cX1_meld 13 = .ok (.ifCond .eq 8, 3) := by decide +kernel
theorem dX1_meld_16 : decode cX1_meld 16 = .ok (.iload_n 1, 1) := by decide +kernel
theorem dX1_meld_17 : decode cX1_meld 17 = .ok (.iload_n 2, 1) := by decide +kernel
theorem dX1_meld_18 : decode cX1_meld 18 = .ok (.if_icmp .ne 5, 3) := by decide +kernel
theorem dX1_meld_21 : decode cX1_meld 21 = .ok (.iconst (-1), 1) := by decide +kernel
theorem dX1_meld_22 : decode cX1_meld 22 = .ok (.ireturn, 1) := by decide +kernel
theorem dX1_meld_23 : decode cX1_meld 23 = .ok (.aload_n 0, 1) := by decide +kernel
theorem dX1_meld_24 : decode cX1_meld 24 = .ok (.getfield 28, 3) := by decide +kernel
theorem dX1_meld_27 : decode cX1_meld 27 = .ok (.iload_n 1, 1) := by decide +kernel
theorem dX1_meld_28 : decode cX1_meld 28 = .ok (.aload_n 0, 1) := by decide +kernel
theorem dX1_meld_29 : decode cX1_meld 29 = .ok (.aload_n 0, 1) := by decide +kernel
theorem dX1_meld_30 : decode cX1_meld 30 = .ok (.getfield 28, 3) := by decide +kernel
theorem dX1_meld_33 : decode cX1_meld 33 = .ok (.iload_n 1, 1) := by decide +kernel
theorem dX1_meld_34 : decode cX1_meld 34 = .ok (.iaload, 1) := by decide +kernel
theorem dX1_meld_35 : decode cX1_meld 35 = .ok (.aload_n 0, 1) := by decide +kernel
theorem dX1_meld_36 : decode cX1_meld 36 = .ok (.getfield 28, 3) := by decide +kernel
theorem dX1_meld_39 : decode cX1_meld 39 = .ok (.iload_n 2, 1) := by decide +kernel
theorem dX1_meld_40 : decode cX1_meld 40 = .ok (.iaload, 1) := by decide +kernel
theorem dX1_meld_41 : decode cX1_meld 41 = .ok (.invokevirtual 65, 3) := by decide +kernel
theorem dX1_meld_44 : decode cX1_meld 44 = .ok (.iastore, 1) := by decide +kernel
theorem dX1_meld_45 : decode cX1_meld 45 = .ok (.aload_n 0, 1) := by decide +kernel
theorem dX1_meld_46 : decode cX1_meld 46 = .ok (.getfield 28, 3) := by decide +kernel
theorem dX1_meld_49 : decode cX1_meld 49 = .ok (.iload_n 2, 1) := by decide +kernel
theorem dX1_meld_50 : decode cX1_meld 50 = .ok (.iconst (-1), 1) := by decide +kernel
theorem dX1_meld_51 : decode cX1_meld 51 = .ok (.iastore, 1) := by decide +kernel
theorem dX1_meld_52 : decode cX1_meld 52 = .ok (.iconst 0, 1) := by decide +kernel
theorem dX1_meld_53 : decode cX1_meld 53 = .ok (.ireturn, 1) := by decide +kernel
end
section
set_option maxRecDepth 100000
abbrev cX1_keyOf : ByteArray := prog_3_method_20_code
def yX1_keyOf : MethodName := ⟨RX1, "keyOf", "(I)I"⟩
theorem dX1_keyOf_0 : decode cX1_keyOf 0 = .ok (.iload_n 1, 1) := by decide +kernel
theorem dX1_keyOf_1 : decode cX1_keyOf 1 = .ok (.iconst 0, 1) := by decide +kernel
theorem dX1_keyOf_2 : decode cX1_keyOf 2 = .ok (.bipush 59, 2) := by decide +kernel
theorem dX1_keyOf_4 : decode cX1_keyOf 4 = .ok (.invokestatic 50, 3) := by decide +kernel
theorem dX1_keyOf_7 : decode cX1_keyOf 7 = .ok (.ifCond .eq 22, 3) := by decide +kernel
theorem dX1_keyOf_10 : decode cX1_keyOf 10 = .ok (.aload_n 0, 1) := by decide +kernel
theorem dX1_keyOf_11 : decode cX1_keyOf 11 = .ok (.getfield 22, 3) := by decide +kernel
theorem dX1_keyOf_14 : decode cX1_keyOf 14 = .ok (.iload_n 1, 1) := by decide +kernel
theorem dX1_keyOf_15 : decode cX1_keyOf 15 = .ok (.iaload, 1) := by decide +kernel
theorem dX1_keyOf_16 : decode cX1_keyOf 16 = .ok (.iconst 1, 1) := by decide +kernel
theorem dX1_keyOf_17 : decode cX1_keyOf 17 = .ok (.if_icmp .ne 12, 3) := by decide +kernel
theorem dX1_keyOf_20 : decode cX1_keyOf 20 = .ok (.aload_n 0, 1) := by decide +kernel
theorem dX1_keyOf_21 : decode cX1_keyOf 21 = .ok (.getfield 7, 3) := by decide +kernel
theorem dX1_keyOf_24 : decode cX1_keyOf 24 = .ok (.iload_n 1, 1) := by decide +kernel
theorem dX1_keyOf_25 : decode cX1_keyOf 25 = .ok (.iaload, 1) := by decide +kernel
theorem dX1_keyOf_26 : decode cX1_keyOf 26 = .ok (.goto 4, 3) := by decide +kernel
theorem dX1_keyOf_29 : decode cX1_keyOf 29 = .ok (.iconst 0, 1) := by decide +kernel
theorem dX1_keyOf_30 : decode cX1_keyOf 30 = .ok (.ireturn, 1) := by decide +kernel
abbrev cX1_size : ByteArray := prog_3_method_22_code
def yX1_size : MethodName := ⟨RX1, "size", "(I)I"⟩
theorem dX1_size_0 : decode cX1_size 0 = .ok (.aload_n 0, 1) := by decide +kernel
theorem dX1_size_1 : decode cX1_size 1 = .ok (.iload_n 1, 1) := by decide +kernel
theorem dX1_size_2 : decode cX1_size 2 = .ok (.invokevirtual 84, 3) := by decide +kernel
theorem dX1_size_5 : decode cX1_size 5 = .ok (.ifCond .eq 12, 3) := by decide +kernel
theorem dX1_size_8 : decode cX1_size 8 = .ok (.aload_n 0, 1) := by decide +kernel
theorem dX1_size_9 : decode cX1_size 9 = .ok (.iload_n 1, 1) := by decide +kernel
theorem dX1_size_10 : decode cX1_size 10 = .ok (.iconst (-1), 1) := by decide +kernel
theorem dX1_size_11 : decode cX1_size 11 = .ok (.invokevirtual 97, 3) := by decide +kernel
theorem dX1_size_14 : decode cX1_size 14 = .ok (.goto 4, 3) := by decide +kernel
theorem dX1_size_17 : decode cX1_size 17 = .ok (.iconst (-1), 1) := by decide +kernel
theorem dX1_size_18 : decode cX1_size 18 = .ok (.ireturn, 1) := by decide +kernel
abbrev cX1_look : ByteArray := prog_3_method_21_code
def yX1_look : MethodName := ⟨RX1, "look", "(II)I"⟩
theorem dX1_look_0 : decode cX1_look 0 = .ok (.iconst 0, 1) := by decide +kernel
theorem dX1_look_1 : decode cX1_look 1 = .ok (.istore_n 3, 1) := by decide +kernel
theorem dX1_look_2 : decode cX1_look 2 = .ok (.iconst 0, 1) := by decide +kernel
theorem dX1_look_3 : decode cX1_look 3 = .ok (.istore 4, 2) := by decide +kernel
theorem dX1_look_5 : decode cX1_look 5 = .ok (.aload_n 0, 1) := by decide +kernel
theorem dX1_look_6 : decode cX1_look 6 = .ok (.getfield 28, 3) := by decide +kernel
theorem dX1_look_9 : decode cX1_look 9 = .ok (.iload_n 1, 1) := by decide +kernel
theorem dX1_look_10 : decode cX1_look 10 = .ok (.iaload, 1) := by decide +kernel
theorem dX1_look_11 : decode cX1_look 11 = .ok (.ifCond .lt 18, 3) := by decide +kernel
theorem dX1_look_14 : decode cX1_look 14 = .ok (.aload_n 0, 1) := by decide +kernel
theorem dX1_look_15 : decode cX1_look 15 = .ok (.getfield 31, 3) := by decide +kernel
theorem dX1_look_18 : decode cX1_look 18 = .ok (.iconst 0, 1) := by decide +kernel
theorem dX1_look_19 : decode cX1_look 19 = .ok (.aload_n 0, 1) := by decide +kernel
theorem dX1_look_20 : decode cX1_look 20 = .ok (.getfield 28, 3) := by decide +kernel
theorem dX1_look_23 : decode cX1_look 23 = .ok (.iload_n 1, 1) := by decide +kernel
theorem dX1_look_24 : decode cX1_look 24 = .ok (.iaload, 1) := by decide +kernel
theorem dX1_look_25 : decode cX1_look 25 = .ok (.iastore, 1) := by decide +kernel
theorem dX1_look_26 : decode cX1_look 26 = .ok (.iconst 1, 1) := by decide +kernel
theorem dX1_look_27 : decode cX1_look 27 = .ok (.istore 4, 2) := by decide +kernel
theorem dX1_look_29 : decode cX1_look 29 = .ok (.iload 4, 2) := by decide +kernel
theorem dX1_look_31 : decode cX1_look 31 = .ok (.ifCond .le 99, 3) := by decide +kernel
theorem dX1_look_34 : decode cX1_look 34 = .ok (.iinc 4 (-1), 3) := by decide +kernel
theorem dX1_look_37 : decode cX1_look 37 = .ok (.aload_n 0, 1) := by decide +kernel
theorem dX1_look_38 : decode cX1_look 38 = .ok (.getfield 31, 3) := by decide +kernel
theorem dX1_look_41 : decode cX1_look 41 = .ok (.iload 4, 2) := by decide +kernel
theorem dX1_look_43 : decode cX1_look 43 = .ok (.iaload, 1) := by decide +kernel
theorem dX1_look_44 : decode cX1_look 44 = .ok (.istore 5, 2) := by decide +kernel
theorem dX1_look_46 : decode cX1_look 46 = .ok (.iload_n 2, 1) := by decide +kernel
theorem dX1_look_47 : decode cX1_look 47 = .ok (.ifCond .ge 17, 3) := by decide +kernel
theorem dX1_look_50 : decode cX1_look 50 = .ok (.aload_n 0, 1) := by decide +kernel
theorem dX1_look_51 : decode cX1_look 51 = .ok (.getfield 22, 3) := by decide +kernel
theorem dX1_look_54 : decode cX1_look 54 = .ok (.iload 5, 2) := by decide +kernel
theorem dX1_look_56 : decode cX1_look 56 = .ok (.iaload, 1) := by decide +kernel
theorem dX1_look_57 : decode cX1_look 57 = .ok (.iconst 1, 1) := by decide +kernel
theorem dX1_look_58 : decode cX1_look 58 = .ok (.if_icmp .ne 15, 3) := by decide +kernel
theorem dX1_look_61 : decode cX1_look 61 = .ok (.goto 9, 3) := by decide +kernel
theorem dX1_look_64 : decode cX1_look 64 = .ok (.iload 5, 2) := by decide +kernel
theorem dX1_look_66 : decode cX1_look 66 = .ok (.iload_n 2, 1) := by decide +kernel
theorem dX1_look_67 : decode cX1_look 67 = .ok (.if_icmp .ne 6, 3) := by decide +kernel
theorem dX1_look_70 : decode cX1_look 70 = .ok (.iinc 3 1, 3) := by decide +kernel
theorem dX1_look_73 : decode cX1_look 73 = .ok (.aload_n 0, 1) := by decide +kernel
theorem dX1_look_74 : decode cX1_look 74 = .ok (.getfield 13, 3) := by decide +kernel
theorem dX1_look_77 : decode cX1_look 77 = .ok (.iload 5, 2) := by decide +kernel
theorem dX1_look_79 : decode cX1_look 79 = .ok (.iaload, 1) := by decide +kernel
theorem dX1_look_80 : decode cX1_look 80 = .ok (.ifCond .lt 20, 3) := by decide +kernel
theorem dX1_look_83 : decode cX1_look 83 = .ok (.aload_n 0, 1) := by decide +kernel
theorem dX1_look_84 : decode cX1_look 84 = .ok (.getfield 31, 3) := by decide +kernel
theorem dX1_look_87 : decode cX1_look 87 = .ok (.iload 4, 2) := by decide +kernel
theorem dX1_look_89 : decode cX1_look 89 = .ok (.aload_n 0, 1) := by decide +kernel
theorem dX1_look_90 : decode cX1_look 90 = .ok (.getfield 13, 3) := by decide +kernel
theorem dX1_look_93 : decode cX1_look 93 = .ok (.iload 5, 2) := by decide +kernel
theorem dX1_look_95 : decode cX1_look 95 = .ok (.iaload, 1) := by decide +kernel
theorem dX1_look_96 : decode cX1_look 96 = .ok (.iastore, 1) := by decide +kernel
theorem dX1_look_97 : decode cX1_look 97 = .ok (.iinc 4 1, 3) := by decide +kernel
theorem dX1_look_100 : decode cX1_look 100 = .ok (.aload_n 0, 1) := by decide +kernel
theorem dX1_look_101 : decode cX1_look 101 = .ok (.getfield 16, 3) := by decide +kernel
theorem dX1_look_104 : decode cX1_look 104 = .ok (.iload 5, 2) := by decide +kernel
theorem dX1_look_106 : decode cX1_look 106 = .ok (.iaload, 1) := by decide +kernel
theorem dX1_look_107 : decode cX1_look 107 = .ok (.ifCond .lt 20, 3) := by decide +kernel
theorem dX1_look_110 : decode cX1_look 110 = .ok (.aload_n 0, 1) := by decide +kernel
theorem dX1_look_111 : decode cX1_look 111 = .ok (.getfield 31, 3) := by decide +kernel
theorem dX1_look_114 : decode cX1_look 114 = .ok (.iload 4, 2) := by decide +kernel
theorem dX1_look_116 : decode cX1_look 116 = .ok (.aload_n 0, 1) := by decide +kernel
theorem dX1_look_117 : decode cX1_look 117 = .ok (.getfield 16, 3) := by decide +kernel
theorem dX1_look_120 : decode cX1_look 120 = .ok (.iload 5, 2) := by decide +kernel
theorem dX1_look_122 : decode cX1_look 122 = .ok (.iaload, 1) := by decide +kernel
theorem dX1_look_123 : decode cX1_look 123 = .ok (.iastore, 1) := by decide +kernel
theorem dX1_look_124 : decode cX1_look 124 = .ok (.iinc 4 1, 3) := by decide +kernel
theorem dX1_look_127 : decode cX1_look 127 = .ok (.goto (-98), 3) := by decide +kernel
theorem dX1_look_130 : decode cX1_look 130 = .ok (.iload_n 3, 1) := by decide +kernel
theorem dX1_look_131 : decode cX1_look 131 = .ok (.ireturn, 1) := by decide +kernel
abbrev cX1_cellsFree : ByteArray := prog_3_method_23_code
def yX1_cellsFree : MethodName := ⟨RX1, "cellsFree", "()I"⟩
theorem dX1_cellsFree_0 : decode cX1_cellsFree 0 = .ok (.aload_n 0, 1) := by decide +kernel
theorem dX1_cellsFree_1 : decode cX1_cellsFree 1 = .ok (.getfield 47, 3) := by decide +kernel
theorem dX1_cellsFree_4 : decode cX1_cellsFree 4 = .ok (.ireturn, 1) := by decide +kernel
abbrev cX1_node : ByteArray := prog_3_method_25_code
def yX1_node : MethodName := ⟨RX1, "node", "(II)I"⟩
theorem dX1_node_0 : decode cX1_node 0 = .ok (.iload_n 1, 1) := by decide +kernel
theorem dX1_node_1 : decode cX1_node 1 = .ok (.iconst 0, 1) := by decide +kernel
theorem dX1_node_2 : decode cX1_node 2 = .ok (.bipush 59, 2) := by decide +kernel
theorem dX1_node_4 : decode cX1_node 4 = .ok (.invokestatic 50, 3) := by decide +kernel
theorem dX1_node_7 : decode cX1_node 7 = .ok (.ifCond .eq 21, 3) := by decide +kernel
theorem dX1_node_10 : decode cX1_node 10 = .ok (.aload_n 0, 1) := by decide +kernel
theorem dX1_node_11 : decode cX1_node 11 = .ok (.getfield 22, 3) := by decide +kernel
theorem dX1_node_14 : decode cX1_node 14 = .ok (.iload_n 1, 1) := by decide +kernel
theorem dX1_node_15 : decode cX1_node 15 = .ok (.iaload, 1) := by decide +kernel
theorem dX1_node_16 : decode cX1_node 16 = .ok (.ifCond .eq 12, 3) := by decide +kernel
theorem dX1_node_19 : decode cX1_node 19 = .ok (.iload_n 2, 1) := by decide +kernel
theorem dX1_node_20 : decode cX1_node 20 = .ok (.iconst 0, 1) := by decide +kernel
theorem dX1_node_21 : decode cX1_node 21 = .ok (.iconst 4, 1) := by decide +kernel
theorem dX1_node_22 : decode cX1_node 22 = .ok (.invokestatic 50, 3) := by decide +kernel
theorem dX1_node_25 : decode cX1_node 25 = .ok (.ifCond .ne 5, 3) := by decide +kernel
theorem dX1_node_28 : decode cX1_node 28 = .ok (.iconst (-1), 1) := by decide +kernel
theorem dX1_node_29 : decode cX1_node 29 = .ok (.ireturn, 1) := by decide +kernel
theorem dX1_node_30 : decode cX1_node 30 = .ok (.iload_n 2, 1) := by decide +kernel
theorem dX1_node_31 : decode cX1_node 31 = .ok (.ifCond .ne 12, 3) := by decide +kernel
theorem dX1_node_34 : decode cX1_node 34 = .ok (.aload_n 0, 1) := by decide +kernel
theorem dX1_node_35 : decode cX1_node 35 = .ok (.getfield 13, 3) := by decide +kernel
theorem dX1_node_38 : decode cX1_node 38 = .ok (.iload_n 1, 1) := by decide +kernel
theorem dX1_node_39 : decode cX1_node 39 = .ok (.iaload, 1) := by decide +kernel
theorem dX1_node_40 : decode cX1_node 40 = .ok (.goto 59, 3) := by decide +kernel
theorem dX1_node_43 : decode cX1_node 43 = .ok (.iload_n 2, 1) := by decide +kernel
theorem dX1_node_44 : decode cX1_node 44 = .ok (.iconst 1, 1) := by decide +kernel
theorem dX1_node_45 : decode cX1_node 45 = .ok (.if_icmp .ne 12, 3) := by decide +kernel
theorem dX1_node_48 : decode cX1_node 48 = .ok (.aload_n 0, 1) := by decide +kernel
theorem dX1_node_49 : decode cX1_node 49 = .ok (.getfield 16, 3) := by decide +kernel
theorem dX1_node_52 : decode cX1_node 52 = .ok (.iload_n 1, 1) := by decide +kernel
theorem dX1_node_53 : decode cX1_node 53 = .ok (.iaload, 1) := by decide +kernel
theorem dX1_node_54 : decode cX1_node 54 = .ok (.goto 45, 3) := by decide +kernel
theorem dX1_node_57 : decode cX1_node 57 = .ok (.iload_n 2, 1) := by decide +kernel
theorem dX1_node_58 : decode cX1_node 58 = .ok (.iconst 2, 1) := by decide +kernel
theorem dX1_node_59 : decode cX1_node 59 = .ok (.if_icmp .ne 12, 3) := by decide +kernel
theorem dX1_node_62 : decode cX1_node 62 = .ok (.aload_n 0, 1) := by decide +kernel
theorem dX1_node_63 : decode cX1_node 63 = .ok (.getfield 19, 3) := by decide +kernel
theorem dX1_node_66 : decode cX1_node 66 = .ok (.iload_n 1, 1) := by decide +kernel
theorem dX1_node_67 : decode cX1_node 67 = .ok (.iaload, 1) := by decide +kernel
theorem dX1_node_68 : decode cX1_node 68 = .ok (.goto 31, 3) := by decide +kernel
theorem dX1_node_71 : decode cX1_node 71 = .ok (.iload_n 2, 1) := by decide +kernel
theorem dX1_node_72 : decode cX1_node 72 = .ok (.iconst 3, 1) := by decide +kernel
theorem dX1_node_73 : decode cX1_node 73 = .ok (.if_icmp .ne 21, 3) := by decide +kernel
theorem dX1_node_76 : decode cX1_node 76 = .ok (.aload_n 0, 1) := by decide +kernel
theorem dX1_node_77 : decode cX1_node 77 = .ok (.getfield 22, 3) := by decide +kernel
theorem dX1_node_80 : decode cX1_node 80 = .ok (.iload_n 1, 1) := by decide +kernel
theorem dX1_node_81 : decode cX1_node 81 = .ok (.iaload, 1) := by decide +kernel
theorem dX1_node_82 : decode cX1_node 82 = .ok (.iconst 1, 1) := by decide +kernel
theorem dX1_node_83 : decode cX1_node 83 = .ok (.if_icmp .ne 7, 3) := by decide +kernel
theorem dX1_node_86 : decode cX1_node 86 = .ok (.iconst 1, 1) := by decide +kernel
theorem dX1_node_87 : decode cX1_node 87 = .ok (.goto 12, 3) := by decide +kernel
theorem dX1_node_90 : decode cX1_node 90 = .ok (.iconst 0, 1) := by decide +kernel
theorem dX1_node_91 : decode cX1_node 91 = .ok (.goto 8, 3) := by decide +kernel
theorem dX1_node_94 : decode cX1_node 94 = .ok (.aload_n 0, 1) := by decide +kernel
theorem dX1_node_95 : decode cX1_node 95 = .ok (.iload_n 1, 1) := by decide +kernel
theorem dX1_node_96 : decode cX1_node 96 = .ok (.invokevirtual 100, 3) := by decide +kernel
theorem dX1_node_99 : decode cX1_node 99 = .ok (.ireturn, 1) := by decide +kernel
abbrev cX1_heapOf : ByteArray := prog_3_method_24_code
def yX1_heapOf : MethodName := ⟨RX1, "heapOf", "(I)I"⟩
theorem dX1_heapOf_0 : decode cX1_heapOf 0 = .ok (.iconst (-1), 1) := by decide +kernel
theorem dX1_heapOf_1 : decode cX1_heapOf 1 = .ok (.istore_n 2, 1) := by decide +kernel
theorem dX1_heapOf_2 : decode cX1_heapOf 2 = .ok (.iconst 0, 1) := by decide +kernel
theorem dX1_heapOf_3 : decode cX1_heapOf 3 = .ok (.istore_n 3, 1) := by decide +kernel
theorem dX1_heapOf_4 : decode cX1_heapOf 4 = .ok (.iload_n 3, 1) := by decide +kernel
theorem dX1_heapOf_5 : decode cX1_heapOf 5 = .ok (.aload_n 0, 1) := by decide +kernel
theorem dX1_heapOf_6 : decode cX1_heapOf 6 = .ok (.getfield 43, 3) := by decide +kernel
theorem dX1_heapOf_9 : decode cX1_heapOf 9 = .ok (.if_icmp .ge 24, 3) := by decide +kernel
theorem dX1_heapOf_12 : decode cX1_heapOf 12 = .ok (.aload_n 0, 1) := by decide +kernel
theorem dX1_heapOf_13 : decode cX1_heapOf 13 = .ok (.iload_n 3, 1) := by decide +kernel
theorem dX1_heapOf_14 : decode cX1_heapOf 14 = .ok (.iload_n 1, 1) := by decide +kernel
theorem dX1_heapOf_15 : decode cX1_heapOf 15 = .ok (.invokevirtual 97, 3) := by decide +kernel
theorem dX1_heapOf_18 : decode cX1_heapOf 18 = .ok (.ifCond .le 7, 3) := by decide +kernel
theorem dX1_heapOf_21 : decode cX1_heapOf 21 = .ok (.iload_n 3, 1) := by decide +kernel
theorem dX1_heapOf_22 : decode cX1_heapOf 22 = .ok (.goto 4, 3) := by decide +kernel
theorem dX1_heapOf_25 : decode cX1_heapOf 25 = .ok (.iload_n 2, 1) := by decide +kernel
theorem dX1_heapOf_26 : decode cX1_heapOf 26 = .ok (.istore_n 2, 1) := by decide +kernel
theorem dX1_heapOf_27 : decode cX1_heapOf 27 = .ok (.iinc 3 1, 3) := by decide +kernel
theorem dX1_heapOf_30 : decode cX1_heapOf 30 = .ok (.goto (-26), 3) := by decide +kernel
theorem dX1_heapOf_33 : decode cX1_heapOf 33 = .ok (.iload_n 2, 1) := by decide +kernel
theorem dX1_heapOf_34 : decode cX1_heapOf 34 = .ok (.ireturn, 1) := by decide +kernel
abbrev cX1_topOf : ByteArray := prog_3_method_26_code
def yX1_topOf : MethodName := ⟨RX1, "topOf", "(I)I"⟩
theorem dX1_topOf_0 : decode cX1_topOf 0 = .ok (.aload_n 0, 1) := by decide +kernel
theorem dX1_topOf_1 : decode cX1_topOf 1 = .ok (.iload_n 1, 1) := by decide +kernel
theorem dX1_topOf_2 : decode cX1_topOf 2 = .ok (.invokevirtual 84, 3) := by decide +kernel
theorem dX1_topOf_5 : decode cX1_topOf 5 = .ok (.ifCond .eq 12, 3) := by decide +kernel
theorem dX1_topOf_8 : decode cX1_topOf 8 = .ok (.aload_n 0, 1) := by decide +kernel
theorem dX1_topOf_9 : decode cX1_topOf 9 = .ok (.getfield 28, 3) := by decide +kernel
theorem dX1_topOf_12 : decode cX1_topOf 12 = .ok (.iload_n 1, 1) := by decide +kernel
theorem dX1_topOf_13 : decode cX1_topOf 13 = .ok (.iaload, 1) := by decide +kernel
theorem dX1_topOf_14 : decode cX1_topOf 14 = .ok (.goto 4, 3) := by decide +kernel
theorem dX1_topOf_17 : decode cX1_topOf 17 = .ok (.iconst (-1), 1) := by decide +kernel
theorem dX1_topOf_18 : decode cX1_topOf 18 = .ok (.ireturn, 1) := by decide +kernel
theorem q26 : (Jvm.Cond.initialized "LeftistHeapsModel") ∈ lw_all := lw_g (lw_at lw_m1 2 rfl) rfl
theorem q191 : (Jvm.Cond.instantiable "LeftistHeapsModel" (13 : Nat)) ∈ lw_all := lw_g (lw_at lw_m1 167 rfl) rfl
theorem q193 : (Jvm.Cond.instanceMethod ({ cls := "LeftistHeapsModel", name := "<init>", desc := "()V" } : Jvm.MethodName)) ∈ lw_all := lw_g (lw_at lw_m1 169 rfl) rfl
theorem q194 : (Jvm.Cond.code ({ cls := "LeftistHeapsModel", name := "<init>", desc := "()V" } : Jvm.MethodName) prog_3_method_1_code (1 : Nat) (Option.none : Option Jvm.ClassFile.FieldType)) ∈ lw_all := lw_g (lw_at lw_m1 170 rfl) rfl
theorem q195 : (Jvm.Cond.methodLink "LeftistHeapsModel" (1 : Nat) ({ cls := "java/lang/Object", name := "<init>", desc := "()V" } : Jvm.MethodName)) ∈ lw_all := lw_g (lw_at lw_m1 171 rfl) rfl
theorem q196 : (Jvm.Cond.methodLink "LeftistHeapsModel" (40 : Nat) ({ cls := "LeftistHeapsModel", name := "init", desc := "()V" } : Jvm.MethodName)) ∈ lw_all := lw_g (lw_at lw_m1 172 rfl) rfl
theorem q197 : (Jvm.Cond.instanceMethod ({ cls := "LeftistHeapsModel", name := "init", desc := "()V" } : Jvm.MethodName)) ∈ lw_all := lw_g (lw_at lw_m1 173 rfl) rfl
theorem q198 : (Jvm.Cond.selects "LeftistHeapsModel" ({ cls := "LeftistHeapsModel", name := "init", desc := "()V" } : Jvm.MethodName) ({ cls := "LeftistHeapsModel", name := "init", desc := "()V" } : Jvm.MethodName)) ∈ lw_all := lw_g (lw_at lw_m1 174 rfl) rfl
theorem q199 : (Jvm.Cond.code ({ cls := "LeftistHeapsModel", name := "init", desc := "()V" } : Jvm.MethodName) prog_3_method_2_code (2 : Nat) (Option.none : Option Jvm.ClassFile.FieldType)) ∈ lw_all := lw_g (lw_at lw_m1 175 rfl) rfl
theorem q200 : (Jvm.Cond.fieldLink "LeftistHeapsModel" (7 : Nat) "LeftistHeapsModel" "key" "[I") ∈ lw_all := lw_g (lw_at lw_m1 176 rfl) rfl
theorem q201 : (Jvm.Cond.fieldLink "LeftistHeapsModel" (13 : Nat) "LeftistHeapsModel" "left" "[I") ∈ lw_all := lw_g (lw_at lw_m1 177 rfl) rfl
theorem q202 : (Jvm.Cond.fieldLink "LeftistHeapsModel" (16 : Nat) "LeftistHeapsModel" "right" "[I") ∈ lw_all := lw_g (lw_at lw_m1 178 rfl) rfl
theorem q203 : (Jvm.Cond.fieldLink "LeftistHeapsModel" (19 : Nat) "LeftistHeapsModel" "rank" "[I") ∈ lw_all := lw_g (lw_at lw_m1 179 rfl) rfl
theorem q204 : (Jvm.Cond.fieldLink "LeftistHeapsModel" (22 : Nat) "LeftistHeapsModel" "state" "[I") ∈ lw_all := lw_g (lw_at lw_m1 180 rfl) rfl
theorem q205 : (Jvm.Cond.fieldLink "LeftistHeapsModel" (25 : Nat) "LeftistHeapsModel" "free" "[I") ∈ lw_all := lw_g (lw_at lw_m1 181 rfl) rfl
theorem q206 : (Jvm.Cond.fieldLink "LeftistHeapsModel" (47 : Nat) "LeftistHeapsModel" "freeMany" "I") ∈ lw_all := lw_g (lw_at lw_m1 182 rfl) rfl
theorem q207 : (Jvm.Cond.fieldLink "LeftistHeapsModel" (28 : Nat) "LeftistHeapsModel" "top" "[I") ∈ lw_all := lw_g (lw_at lw_m1 183 rfl) rfl
theorem q208 : (Jvm.Cond.fieldLink "LeftistHeapsModel" (43 : Nat) "LeftistHeapsModel" "heaps" "I") ∈ lw_all := lw_g (lw_at lw_m1 184 rfl) rfl
theorem q209 : (Jvm.Cond.fieldLink "LeftistHeapsModel" (31 : Nat) "LeftistHeapsModel" "pile" "[I") ∈ lw_all := lw_g (lw_at lw_m1 185 rfl) rfl
theorem q210 : (Jvm.Cond.fieldLink "LeftistHeapsModel" (34 : Nat) "LeftistHeapsModel" "spine" "[I") ∈ lw_all := lw_g (lw_at lw_m1 186 rfl) rfl
theorem q211 : (Jvm.Cond.fieldLink "LeftistHeapsModel" (37 : Nat) "LeftistHeapsModel" "row" "[I") ∈ lw_all := lw_g (lw_at lw_m1 187 rfl) rfl
theorem q212 : (Jvm.Cond.fieldLink "LeftistHeapsModel" (62 : Nat) "LeftistHeapsModel" "rowMany" "I") ∈ lw_all := lw_g (lw_at lw_m1 188 rfl) rfl
theorem q213 : (Jvm.Cond.laysFinal "LeftistHeapsModel" "LeftistHeapsModel" "key" "[I") ∈ lw_all := lw_g (lw_at lw_m1 189 rfl) rfl
theorem q214 : (Jvm.Cond.soleField "LeftistHeapsModel" "key") ∈ lw_all := lw_g (lw_at lw_m1 190 rfl) rfl
theorem q215 : (Jvm.Cond.laysFinal "LeftistHeapsModel" "LeftistHeapsModel" "left" "[I") ∈ lw_all := lw_g (lw_at lw_m1 191 rfl) rfl
theorem q216 : (Jvm.Cond.soleField "LeftistHeapsModel" "left") ∈ lw_all := lw_g (lw_at lw_m1 192 rfl) rfl
theorem q217 : (Jvm.Cond.laysFinal "LeftistHeapsModel" "LeftistHeapsModel" "right" "[I") ∈ lw_all := lw_g (lw_at lw_m1 193 rfl) rfl
theorem q218 : (Jvm.Cond.soleField "LeftistHeapsModel" "right") ∈ lw_all := lw_g (lw_at lw_m1 194 rfl) rfl
theorem q219 : (Jvm.Cond.laysFinal "LeftistHeapsModel" "LeftistHeapsModel" "rank" "[I") ∈ lw_all := lw_g (lw_at lw_m1 195 rfl) rfl
theorem q220 : (Jvm.Cond.soleField "LeftistHeapsModel" "rank") ∈ lw_all := lw_g (lw_at lw_m1 196 rfl) rfl
theorem q221 : (Jvm.Cond.laysFinal "LeftistHeapsModel" "LeftistHeapsModel" "state" "[I") ∈ lw_all := lw_g (lw_at lw_m1 197 rfl) rfl
theorem q222 : (Jvm.Cond.soleField "LeftistHeapsModel" "state") ∈ lw_all := lw_g (lw_at lw_m1 198 rfl) rfl
theorem q223 : (Jvm.Cond.laysFinal "LeftistHeapsModel" "LeftistHeapsModel" "free" "[I") ∈ lw_all := lw_g (lw_at lw_m1 199 rfl) rfl
theorem q224 : (Jvm.Cond.soleField "LeftistHeapsModel" "free") ∈ lw_all := lw_g (lw_at lw_m1 200 rfl) rfl
theorem q225 : (Jvm.Cond.lays "LeftistHeapsModel" "LeftistHeapsModel" "freeMany" "I") ∈ lw_all := lw_g (lw_at lw_m1 201 rfl) rfl
theorem q226 : (Jvm.Cond.soleField "LeftistHeapsModel" "freeMany") ∈ lw_all := lw_g (lw_at lw_m1 202 rfl) rfl
theorem q227 : (Jvm.Cond.laysFinal "LeftistHeapsModel" "LeftistHeapsModel" "top" "[I") ∈ lw_all := lw_g (lw_at lw_m1 203 rfl) rfl
theorem q228 : (Jvm.Cond.soleField "LeftistHeapsModel" "top") ∈ lw_all := lw_g (lw_at lw_m1 204 rfl) rfl
theorem q229 : (Jvm.Cond.lays "LeftistHeapsModel" "LeftistHeapsModel" "heaps" "I") ∈ lw_all := lw_g (lw_at lw_m1 205 rfl) rfl
theorem q230 : (Jvm.Cond.soleField "LeftistHeapsModel" "heaps") ∈ lw_all := lw_g (lw_at lw_m1 206 rfl) rfl
theorem q231 : (Jvm.Cond.laysFinal "LeftistHeapsModel" "LeftistHeapsModel" "pile" "[I") ∈ lw_all := lw_g (lw_at lw_m1 207 rfl) rfl
theorem q232 : (Jvm.Cond.soleField "LeftistHeapsModel" "pile") ∈ lw_all := lw_g (lw_at lw_m1 208 rfl) rfl
theorem q233 : (Jvm.Cond.laysFinal "LeftistHeapsModel" "LeftistHeapsModel" "spine" "[I") ∈ lw_all := lw_g (lw_at lw_m1 209 rfl) rfl
theorem q234 : (Jvm.Cond.soleField "LeftistHeapsModel" "spine") ∈ lw_all := lw_g (lw_at lw_m1 210 rfl) rfl
theorem q235 : (Jvm.Cond.laysFinal "LeftistHeapsModel" "LeftistHeapsModel" "row" "[I") ∈ lw_all := lw_g (lw_at lw_m1 211 rfl) rfl
theorem q236 : (Jvm.Cond.soleField "LeftistHeapsModel" "row") ∈ lw_all := lw_g (lw_at lw_m1 212 rfl) rfl
theorem q237 : (Jvm.Cond.lays "LeftistHeapsModel" "LeftistHeapsModel" "rowMany" "I") ∈ lw_all := lw_g (lw_at lw_m1 213 rfl) rfl
theorem q238 : (Jvm.Cond.soleField "LeftistHeapsModel" "rowMany") ∈ lw_all := lw_g (lw_at lw_m1 214 rfl) rfl
theorem q239 : (Jvm.Cond.superclass "LeftistHeapsModel" "java/lang/Object") ∈ lw_all := lw_g (lw_at lw_m1 215 rfl) rfl
theorem q242 : (Jvm.Cond.instanceMethod ({ cls := "LeftistHeapsModel", name := "newHeap", desc := "()I" } : Jvm.MethodName)) ∈ lw_all := lw_g (lw_at lw_m1 218 rfl) rfl
theorem q243 : (Jvm.Cond.selects "LeftistHeapsModel" ({ cls := "LeftistHeapsModel", name := "newHeap", desc := "()I" } : Jvm.MethodName) ({ cls := "LeftistHeapsModel", name := "newHeap", desc := "()I" } : Jvm.MethodName)) ∈ lw_all := lw_g (lw_at lw_m1 219 rfl) rfl
theorem q244 : (Jvm.Cond.code ({ cls := "LeftistHeapsModel", name := "newHeap", desc := "()I" } : Jvm.MethodName) prog_3_method_13_code (1 : Nat) (Option.some Jvm.ClassFile.FieldType.int)) ∈ lw_all := lw_g (lw_at lw_m1 220 rfl) rfl
theorem q246 : (Jvm.Cond.instanceMethod ({ cls := "LeftistHeapsModel", name := "insert", desc := "(II)I" } : Jvm.MethodName)) ∈ lw_all := lw_g (lw_at lw_m1 222 rfl) rfl
theorem q247 : (Jvm.Cond.selects "LeftistHeapsModel" ({ cls := "LeftistHeapsModel", name := "insert", desc := "(II)I" } : Jvm.MethodName) ({ cls := "LeftistHeapsModel", name := "insert", desc := "(II)I" } : Jvm.MethodName)) ∈ lw_all := lw_g (lw_at lw_m1 223 rfl) rfl
theorem q248 : (Jvm.Cond.code ({ cls := "LeftistHeapsModel", name := "insert", desc := "(II)I" } : Jvm.MethodName) prog_3_method_14_code (4 : Nat) (Option.some Jvm.ClassFile.FieldType.int)) ∈ lw_all := lw_g (lw_at lw_m1 224 rfl) rfl
theorem q249 : (Jvm.Cond.methodLink "LeftistHeapsModel" (84 : Nat) ({ cls := "LeftistHeapsModel", name := "isHeap", desc := "(I)Z" } : Jvm.MethodName)) ∈ lw_all := lw_g (lw_at lw_m1 225 rfl) rfl
theorem q250 : (Jvm.Cond.privateMethod ({ cls := "LeftistHeapsModel", name := "isHeap", desc := "(I)Z" } : Jvm.MethodName)) ∈ lw_tbl := lw_at lw_m1 226 rfl
theorem q251 : (Jvm.Cond.instanceMethod ({ cls := "LeftistHeapsModel", name := "isHeap", desc := "(I)Z" } : Jvm.MethodName)) ∈ lw_all := lw_g (lw_at lw_m1 227 rfl) rfl
theorem q252 : (Jvm.Cond.code ({ cls := "LeftistHeapsModel", name := "isHeap", desc := "(I)Z" } : Jvm.MethodName) prog_3_method_4_code (2 : Nat) (Option.some Jvm.ClassFile.FieldType.boolean)) ∈ lw_all := lw_g (lw_at lw_m1 228 rfl) rfl
theorem q253 : (Jvm.Cond.methodLink "LeftistHeapsModel" (50 : Nat) ({ cls := "LeftistHeapsModel", name := "isIn", desc := "(III)Z" } : Jvm.MethodName)) ∈ lw_all := lw_g (lw_at lw_m1 229 rfl) rfl
theorem q254 : (Jvm.Cond.static ({ cls := "LeftistHeapsModel", name := "isIn", desc := "(III)Z" } : Jvm.MethodName)) ∈ lw_all := lw_g (lw_at lw_m1 230 rfl) rfl
theorem q255 : (Jvm.Cond.code ({ cls := "LeftistHeapsModel", name := "isIn", desc := "(III)Z" } : Jvm.MethodName) prog_3_method_3_code (3 : Nat) (Option.some Jvm.ClassFile.FieldType.boolean)) ∈ lw_all := lw_g (lw_at lw_m1 231 rfl) rfl
theorem q256 : (Jvm.Cond.methodLink "LeftistHeapsModel" (88 : Nat) ({ cls := "LeftistHeapsModel", name := "clearAll", desc := "()V" } : Jvm.MethodName)) ∈ lw_all := lw_g (lw_at lw_m1 232 rfl) rfl
theorem q257 : (Jvm.Cond.privateMethod ({ cls := "LeftistHeapsModel", name := "clearAll", desc := "()V" } : Jvm.MethodName)) ∈ lw_tbl := lw_at lw_m1 233 rfl
theorem q258 : (Jvm.Cond.instanceMethod ({ cls := "LeftistHeapsModel", name := "clearAll", desc := "()V" } : Jvm.MethodName)) ∈ lw_all := lw_g (lw_at lw_m1 234 rfl) rfl
theorem q259 : (Jvm.Cond.code ({ cls := "LeftistHeapsModel", name := "clearAll", desc := "()V" } : Jvm.MethodName) prog_3_method_15_code (2 : Nat) (Option.none : Option Jvm.ClassFile.FieldType)) ∈ lw_all := lw_g (lw_at lw_m1 235 rfl) rfl
theorem q260 : (Jvm.Cond.methodLink "LeftistHeapsModel" (91 : Nat) ({ cls := "LeftistHeapsModel", name := "clean", desc := "(IZ)V" } : Jvm.MethodName)) ∈ lw_all := lw_g (lw_at lw_m1 236 rfl) rfl
theorem q261 : (Jvm.Cond.privateMethod ({ cls := "LeftistHeapsModel", name := "clean", desc := "(IZ)V" } : Jvm.MethodName)) ∈ lw_tbl := lw_at lw_m1 237 rfl
theorem q262 : (Jvm.Cond.instanceMethod ({ cls := "LeftistHeapsModel", name := "clean", desc := "(IZ)V" } : Jvm.MethodName)) ∈ lw_all := lw_g (lw_at lw_m1 238 rfl) rfl
theorem q263 : (Jvm.Cond.code ({ cls := "LeftistHeapsModel", name := "clean", desc := "(IZ)V" } : Jvm.MethodName) prog_3_method_12_code (3 : Nat) (Option.none : Option Jvm.ClassFile.FieldType)) ∈ lw_all := lw_g (lw_at lw_m1 239 rfl) rfl
theorem q264 : (Jvm.Cond.methodLink "LeftistHeapsModel" (76 : Nat) ({ cls := "LeftistHeapsModel", name := "goThrough", desc := "(IZ)V" } : Jvm.MethodName)) ∈ lw_all := lw_g (lw_at lw_m2 0 rfl) rfl
theorem q265 : (Jvm.Cond.privateMethod ({ cls := "LeftistHeapsModel", name := "goThrough", desc := "(IZ)V" } : Jvm.MethodName)) ∈ lw_tbl := lw_at lw_m2 1 rfl
theorem q266 : (Jvm.Cond.instanceMethod ({ cls := "LeftistHeapsModel", name := "goThrough", desc := "(IZ)V" } : Jvm.MethodName)) ∈ lw_all := lw_g (lw_at lw_m2 2 rfl) rfl
theorem q267 : (Jvm.Cond.code ({ cls := "LeftistHeapsModel", name := "goThrough", desc := "(IZ)V" } : Jvm.MethodName) prog_3_method_10_code (8 : Nat) (Option.none : Option Jvm.ClassFile.FieldType)) ∈ lw_all := lw_g (lw_at lw_m2 3 rfl) rfl
theorem q268 : (Jvm.Cond.methodLink "LeftistHeapsModel" (69 : Nat) ({ cls := "LeftistHeapsModel", name := "letGo", desc := "(I)V" } : Jvm.MethodName)) ∈ lw_all := lw_g (lw_at lw_m2 4 rfl) rfl
theorem q269 : (Jvm.Cond.privateMethod ({ cls := "LeftistHeapsModel", name := "letGo", desc := "(I)V" } : Jvm.MethodName)) ∈ lw_tbl := lw_at lw_m2 5 rfl
theorem q270 : (Jvm.Cond.instanceMethod ({ cls := "LeftistHeapsModel", name := "letGo", desc := "(I)V" } : Jvm.MethodName)) ∈ lw_all := lw_g (lw_at lw_m2 6 rfl) rfl
theorem q271 : (Jvm.Cond.code ({ cls := "LeftistHeapsModel", name := "letGo", desc := "(I)V" } : Jvm.MethodName) prog_3_method_7_code (2 : Nat) (Option.none : Option Jvm.ClassFile.FieldType)) ∈ lw_all := lw_g (lw_at lw_m2 7 rfl) rfl
theorem q272 : (Jvm.Cond.methodLink "LeftistHeapsModel" (73 : Nat) ({ cls := "LeftistHeapsModel", name := "alone", desc := "(I)V" } : Jvm.MethodName)) ∈ lw_all := lw_g (lw_at lw_m2 8 rfl) rfl
theorem q273 : (Jvm.Cond.privateMethod ({ cls := "LeftistHeapsModel", name := "alone", desc := "(I)V" } : Jvm.MethodName)) ∈ lw_tbl := lw_at lw_m2 9 rfl
theorem q274 : (Jvm.Cond.instanceMethod ({ cls := "LeftistHeapsModel", name := "alone", desc := "(I)V" } : Jvm.MethodName)) ∈ lw_all := lw_g (lw_at lw_m2 10 rfl) rfl
theorem q275 : (Jvm.Cond.code ({ cls := "LeftistHeapsModel", name := "alone", desc := "(I)V" } : Jvm.MethodName) prog_3_method_11_code (2 : Nat) (Option.none : Option Jvm.ClassFile.FieldType)) ∈ lw_all := lw_g (lw_at lw_m2 11 rfl) rfl
theorem q276 : (Jvm.Cond.methodLink "LeftistHeapsModel" (80 : Nat) ({ cls := "LeftistHeapsModel", name := "joinRow", desc := "()I" } : Jvm.MethodName)) ∈ lw_all := lw_g (lw_at lw_m2 12 rfl) rfl
theorem q277 : (Jvm.Cond.privateMethod ({ cls := "LeftistHeapsModel", name := "joinRow", desc := "()I" } : Jvm.MethodName)) ∈ lw_tbl := lw_at lw_m2 13 rfl
theorem q278 : (Jvm.Cond.instanceMethod ({ cls := "LeftistHeapsModel", name := "joinRow", desc := "()I" } : Jvm.MethodName)) ∈ lw_all := lw_g (lw_at lw_m2 14 rfl) rfl
theorem q279 : (Jvm.Cond.code ({ cls := "LeftistHeapsModel", name := "joinRow", desc := "()I" } : Jvm.MethodName) prog_3_method_9_code (3 : Nat) (Option.some Jvm.ClassFile.FieldType.int)) ∈ lw_all := lw_g (lw_at lw_m2 15 rfl) rfl
theorem q280 : (Jvm.Cond.methodLink "LeftistHeapsModel" (65 : Nat) ({ cls := "LeftistHeapsModel", name := "join", desc := "(II)I" } : Jvm.MethodName)) ∈ lw_all := lw_g (lw_at lw_m2 16 rfl) rfl
theorem q281 : (Jvm.Cond.privateMethod ({ cls := "LeftistHeapsModel", name := "join", desc := "(II)I" } : Jvm.MethodName)) ∈ lw_tbl := lw_at lw_m2 17 rfl
theorem q282 : (Jvm.Cond.instanceMethod ({ cls := "LeftistHeapsModel", name := "join", desc := "(II)I" } : Jvm.MethodName)) ∈ lw_all := lw_g (lw_at lw_m2 18 rfl) rfl
theorem q283 : (Jvm.Cond.code ({ cls := "LeftistHeapsModel", name := "join", desc := "(II)I" } : Jvm.MethodName) prog_3_method_8_code (10 : Nat) (Option.some Jvm.ClassFile.FieldType.int)) ∈ lw_all := lw_g (lw_at lw_m2 19 rfl) rfl
theorem q284 : (Jvm.Cond.methodLink "LeftistHeapsModel" (54 : Nat) ({ cls := "LeftistHeapsModel", name := "isBefore", desc := "(II)Z" } : Jvm.MethodName)) ∈ lw_all := lw_g (lw_at lw_m2 20 rfl) rfl
theorem q285 : (Jvm.Cond.privateMethod ({ cls := "LeftistHeapsModel", name := "isBefore", desc := "(II)Z" } : Jvm.MethodName)) ∈ lw_tbl := lw_at lw_m2 21 rfl
theorem q286 : (Jvm.Cond.instanceMethod ({ cls := "LeftistHeapsModel", name := "isBefore", desc := "(II)Z" } : Jvm.MethodName)) ∈ lw_all := lw_g (lw_at lw_m2 22 rfl) rfl
theorem q287 : (Jvm.Cond.code ({ cls := "LeftistHeapsModel", name := "isBefore", desc := "(II)Z" } : Jvm.MethodName) prog_3_method_6_code (3 : Nat) (Option.some Jvm.ClassFile.FieldType.boolean)) ∈ lw_all := lw_g (lw_at lw_m2 23 rfl) rfl
theorem q288 : (Jvm.Cond.methodLink "LeftistHeapsModel" (58 : Nat) ({ cls := "LeftistHeapsModel", name := "rankOf", desc := "(I)I" } : Jvm.MethodName)) ∈ lw_all := lw_g (lw_at lw_m2 24 rfl) rfl
theorem q289 : (Jvm.Cond.privateMethod ({ cls := "LeftistHeapsModel", name := "rankOf", desc := "(I)I" } : Jvm.MethodName)) ∈ lw_tbl := lw_at lw_m2 25 rfl
theorem q290 : (Jvm.Cond.instanceMethod ({ cls := "LeftistHeapsModel", name := "rankOf", desc := "(I)I" } : Jvm.MethodName)) ∈ lw_all := lw_g (lw_at lw_m2 26 rfl) rfl
theorem q291 : (Jvm.Cond.code ({ cls := "LeftistHeapsModel", name := "rankOf", desc := "(I)I" } : Jvm.MethodName) prog_3_method_5_code (2 : Nat) (Option.some Jvm.ClassFile.FieldType.int)) ∈ lw_all := lw_g (lw_at lw_m2 27 rfl) rfl
theorem q293 : (Jvm.Cond.instanceMethod ({ cls := "LeftistHeapsModel", name := "delete", desc := "(I)I" } : Jvm.MethodName)) ∈ lw_all := lw_g (lw_at lw_m2 29 rfl) rfl
theorem q294 : (Jvm.Cond.selects "LeftistHeapsModel" ({ cls := "LeftistHeapsModel", name := "delete", desc := "(I)I" } : Jvm.MethodName) ({ cls := "LeftistHeapsModel", name := "delete", desc := "(I)I" } : Jvm.MethodName)) ∈ lw_all := lw_g (lw_at lw_m2 30 rfl) rfl
theorem q295 : (Jvm.Cond.code ({ cls := "LeftistHeapsModel", name := "delete", desc := "(I)I" } : Jvm.MethodName) prog_3_method_16_code (2 : Nat) (Option.some Jvm.ClassFile.FieldType.int)) ∈ lw_all := lw_g (lw_at lw_m2 31 rfl) rfl
theorem q297 : (Jvm.Cond.instanceMethod ({ cls := "LeftistHeapsModel", name := "findMin", desc := "(I)I" } : Jvm.MethodName)) ∈ lw_all := lw_g (lw_at lw_m2 33 rfl) rfl
theorem q298 : (Jvm.Cond.selects "LeftistHeapsModel" ({ cls := "LeftistHeapsModel", name := "findMin", desc := "(I)I" } : Jvm.MethodName) ({ cls := "LeftistHeapsModel", name := "findMin", desc := "(I)I" } : Jvm.MethodName)) ∈ lw_all := lw_g (lw_at lw_m2 34 rfl) rfl
theorem q299 : (Jvm.Cond.code ({ cls := "LeftistHeapsModel", name := "findMin", desc := "(I)I" } : Jvm.MethodName) prog_3_method_17_code (2 : Nat) (Option.some Jvm.ClassFile.FieldType.int)) ∈ lw_all := lw_g (lw_at lw_m2 35 rfl) rfl
theorem q301 : (Jvm.Cond.instanceMethod ({ cls := "LeftistHeapsModel", name := "deleteMin", desc := "(I)I" } : Jvm.MethodName)) ∈ lw_all := lw_g (lw_at lw_m2 37 rfl) rfl
theorem q302 : (Jvm.Cond.selects "LeftistHeapsModel" ({ cls := "LeftistHeapsModel", name := "deleteMin", desc := "(I)I" } : Jvm.MethodName) ({ cls := "LeftistHeapsModel", name := "deleteMin", desc := "(I)I" } : Jvm.MethodName)) ∈ lw_all := lw_g (lw_at lw_m2 38 rfl) rfl
theorem q303 : (Jvm.Cond.code ({ cls := "LeftistHeapsModel", name := "deleteMin", desc := "(I)I" } : Jvm.MethodName) prog_3_method_18_code (3 : Nat) (Option.some Jvm.ClassFile.FieldType.int)) ∈ lw_all := lw_g (lw_at lw_m2 39 rfl) rfl
theorem q304 : (Jvm.Cond.methodLink "LeftistHeapsModel" (94 : Nat) ({ cls := "LeftistHeapsModel", name := "findMin", desc := "(I)I" } : Jvm.MethodName)) ∈ lw_all := lw_g (lw_at lw_m2 40 rfl) rfl
theorem q306 : (Jvm.Cond.instanceMethod ({ cls := "LeftistHeapsModel", name := "meld", desc := "(II)I" } : Jvm.MethodName)) ∈ lw_all := lw_g (lw_at lw_m2 42 rfl) rfl
theorem q307 : (Jvm.Cond.selects "LeftistHeapsModel" ({ cls := "LeftistHeapsModel", name := "meld", desc := "(II)I" } : Jvm.MethodName) ({ cls := "LeftistHeapsModel", name := "meld", desc := "(II)I" } : Jvm.MethodName)) ∈ lw_all := lw_g (lw_at lw_m2 43 rfl) rfl
theorem q308 : (Jvm.Cond.code ({ cls := "LeftistHeapsModel", name := "meld", desc := "(II)I" } : Jvm.MethodName) prog_3_method_19_code (3 : Nat) (Option.some Jvm.ClassFile.FieldType.int)) ∈ lw_all := lw_g (lw_at lw_m2 44 rfl) rfl
theorem q310 : (Jvm.Cond.instanceMethod ({ cls := "LeftistHeapsModel", name := "keyOf", desc := "(I)I" } : Jvm.MethodName)) ∈ lw_all := lw_g (lw_at lw_m2 46 rfl) rfl
theorem q311 : (Jvm.Cond.selects "LeftistHeapsModel" ({ cls := "LeftistHeapsModel", name := "keyOf", desc := "(I)I" } : Jvm.MethodName) ({ cls := "LeftistHeapsModel", name := "keyOf", desc := "(I)I" } : Jvm.MethodName)) ∈ lw_all := lw_g (lw_at lw_m2 47 rfl) rfl
theorem q312 : (Jvm.Cond.code ({ cls := "LeftistHeapsModel", name := "keyOf", desc := "(I)I" } : Jvm.MethodName) prog_3_method_20_code (2 : Nat) (Option.some Jvm.ClassFile.FieldType.int)) ∈ lw_all := lw_g (lw_at lw_m2 48 rfl) rfl
theorem q314 : (Jvm.Cond.instanceMethod ({ cls := "LeftistHeapsModel", name := "size", desc := "(I)I" } : Jvm.MethodName)) ∈ lw_all := lw_g (lw_at lw_m2 50 rfl) rfl
theorem q315 : (Jvm.Cond.selects "LeftistHeapsModel" ({ cls := "LeftistHeapsModel", name := "size", desc := "(I)I" } : Jvm.MethodName) ({ cls := "LeftistHeapsModel", name := "size", desc := "(I)I" } : Jvm.MethodName)) ∈ lw_all := lw_g (lw_at lw_m2 51 rfl) rfl
theorem q316 : (Jvm.Cond.code ({ cls := "LeftistHeapsModel", name := "size", desc := "(I)I" } : Jvm.MethodName) prog_3_method_22_code (2 : Nat) (Option.some Jvm.ClassFile.FieldType.int)) ∈ lw_all := lw_g (lw_at lw_m2 52 rfl) rfl
theorem q317 : (Jvm.Cond.methodLink "LeftistHeapsModel" (97 : Nat) ({ cls := "LeftistHeapsModel", name := "look", desc := "(II)I" } : Jvm.MethodName)) ∈ lw_all := lw_g (lw_at lw_m2 53 rfl) rfl
theorem q318 : (Jvm.Cond.privateMethod ({ cls := "LeftistHeapsModel", name := "look", desc := "(II)I" } : Jvm.MethodName)) ∈ lw_tbl := lw_at lw_m2 54 rfl
theorem q319 : (Jvm.Cond.instanceMethod ({ cls := "LeftistHeapsModel", name := "look", desc := "(II)I" } : Jvm.MethodName)) ∈ lw_all := lw_g (lw_at lw_m2 55 rfl) rfl
theorem q320 : (Jvm.Cond.code ({ cls := "LeftistHeapsModel", name := "look", desc := "(II)I" } : Jvm.MethodName) prog_3_method_21_code (6 : Nat) (Option.some Jvm.ClassFile.FieldType.int)) ∈ lw_all := lw_g (lw_at lw_m2 56 rfl) rfl
theorem q322 : (Jvm.Cond.instanceMethod ({ cls := "LeftistHeapsModel", name := "cellsFree", desc := "()I" } : Jvm.MethodName)) ∈ lw_all := lw_g (lw_at lw_m2 58 rfl) rfl
theorem q323 : (Jvm.Cond.selects "LeftistHeapsModel" ({ cls := "LeftistHeapsModel", name := "cellsFree", desc := "()I" } : Jvm.MethodName) ({ cls := "LeftistHeapsModel", name := "cellsFree", desc := "()I" } : Jvm.MethodName)) ∈ lw_all := lw_g (lw_at lw_m2 59 rfl) rfl
theorem q324 : (Jvm.Cond.code ({ cls := "LeftistHeapsModel", name := "cellsFree", desc := "()I" } : Jvm.MethodName) prog_3_method_23_code (1 : Nat) (Option.some Jvm.ClassFile.FieldType.int)) ∈ lw_all := lw_g (lw_at lw_m2 60 rfl) rfl
theorem q326 : (Jvm.Cond.instanceMethod ({ cls := "LeftistHeapsModel", name := "node", desc := "(II)I" } : Jvm.MethodName)) ∈ lw_all := lw_g (lw_at lw_m2 62 rfl) rfl
theorem q327 : (Jvm.Cond.selects "LeftistHeapsModel" ({ cls := "LeftistHeapsModel", name := "node", desc := "(II)I" } : Jvm.MethodName) ({ cls := "LeftistHeapsModel", name := "node", desc := "(II)I" } : Jvm.MethodName)) ∈ lw_all := lw_g (lw_at lw_m2 63 rfl) rfl
theorem q328 : (Jvm.Cond.code ({ cls := "LeftistHeapsModel", name := "node", desc := "(II)I" } : Jvm.MethodName) prog_3_method_25_code (3 : Nat) (Option.some Jvm.ClassFile.FieldType.int)) ∈ lw_all := lw_g (lw_at lw_m2 64 rfl) rfl
theorem q329 : (Jvm.Cond.methodLink "LeftistHeapsModel" (100 : Nat) ({ cls := "LeftistHeapsModel", name := "heapOf", desc := "(I)I" } : Jvm.MethodName)) ∈ lw_all := lw_g (lw_at lw_m2 65 rfl) rfl
theorem q330 : (Jvm.Cond.privateMethod ({ cls := "LeftistHeapsModel", name := "heapOf", desc := "(I)I" } : Jvm.MethodName)) ∈ lw_tbl := lw_at lw_m2 66 rfl
theorem q331 : (Jvm.Cond.instanceMethod ({ cls := "LeftistHeapsModel", name := "heapOf", desc := "(I)I" } : Jvm.MethodName)) ∈ lw_all := lw_g (lw_at lw_m2 67 rfl) rfl
theorem q332 : (Jvm.Cond.code ({ cls := "LeftistHeapsModel", name := "heapOf", desc := "(I)I" } : Jvm.MethodName) prog_3_method_24_code (4 : Nat) (Option.some Jvm.ClassFile.FieldType.int)) ∈ lw_all := lw_g (lw_at lw_m2 68 rfl) rfl
theorem q334 : (Jvm.Cond.instanceMethod ({ cls := "LeftistHeapsModel", name := "topOf", desc := "(I)I" } : Jvm.MethodName)) ∈ lw_all := lw_g (lw_at lw_m2 70 rfl) rfl
theorem q335 : (Jvm.Cond.selects "LeftistHeapsModel" ({ cls := "LeftistHeapsModel", name := "topOf", desc := "(I)I" } : Jvm.MethodName) ({ cls := "LeftistHeapsModel", name := "topOf", desc := "(I)I" } : Jvm.MethodName)) ∈ lw_all := lw_g (lw_at lw_m2 71 rfl) rfl
theorem q336 : (Jvm.Cond.code ({ cls := "LeftistHeapsModel", name := "topOf", desc := "(I)I" } : Jvm.MethodName) prog_3_method_26_code (2 : Nat) (Option.some Jvm.ClassFile.FieldType.int)) ∈ lw_all := lw_g (lw_at lw_m2 72 rfl) rfl
theorem in_X1 : ∀ w ∈ wsX10, w ∈ lw_all := lw_in wsX10 [213, 215, 217, 219, 221, 223, 225, 227, 229, 231, 233, 235, 237] (by decide +kernel) (by decide +kernel)
end
section
/-! java/lang/Object -/
set_option maxRecDepth 100000
def RJ0 : String := "java/lang/Object"
abbrev cJ0_init : ByteArray := object_method_1_code
def yJ0_init : MethodName := ⟨RJ0, "<init>", "()V"⟩
theorem dJ0_init_0 : decode cJ0_init 0 = .ok (.return_, 1) := by decide +kernel
theorem q33 : (Jvm.Cond.instanceMethod ({ cls := "java/lang/Object", name := "<init>", desc := "()V" } : Jvm.MethodName)) ∈ lw_all := lw_g (lw_at lw_m1 9 rfl) rfl
theorem q34 : (Jvm.Cond.code ({ cls := "java/lang/Object", name := "<init>", desc := "()V" } : Jvm.MethodName) object_method_1_code (1 : Nat) (Option.none : Option Jvm.ClassFile.FieldType)) ∈ lw_all := lw_g (lw_at lw_m1 10 rfl) rfl
theorem q94 : (Jvm.Cond.arrayClass Jvm.ClassFile.FieldType.int) ∈ lw_all := lw_g (lw_at lw_m1 70 rfl) rfl
set_option maxRecDepth 100000
theorem q95 : (Jvm.Cond.arrayClass Jvm.ClassFile.FieldType.boolean) ∈ lw_all := lw_g (lw_at lw_m1 71 rfl) rfl
theorem q24 : (Jvm.Cond.initialized "LeftistHeapsLaw") ∈ lw_all := lw_g (lw_at lw_m1 0 rfl) rfl
set_option maxRecDepth 100000
theorem q27 : (Jvm.Cond.classLink "LeftistHeapsLaw" (7 : Nat) "LeftistHeaps") ∈ lw_all := lw_g (lw_at lw_m1 3 rfl) rfl
theorem q29 : (Jvm.Cond.methodLink "LeftistHeapsLaw" (9 : Nat) ({ cls := "LeftistHeaps", name := "<init>", desc := "()V" } : Jvm.MethodName)) ∈ lw_all := lw_g (lw_at lw_m1 5 rfl) rfl
theorem q96 : (Jvm.Cond.methodLink "LeftistHeapsLaw" (13 : Nat) ({ cls := "LeftistHeaps", name := "init", desc := "()V" } : Jvm.MethodName)) ∈ lw_all := lw_g (lw_at lw_m1 72 rfl) rfl
theorem q97 : (Jvm.Cond.methodLink "LeftistHeapsLaw" (17 : Nat) ({ cls := "LeftistHeaps", name := "newHeap", desc := "()I" } : Jvm.MethodName)) ∈ lw_all := lw_g (lw_at lw_m1 73 rfl) rfl
theorem q105 : (Jvm.Cond.methodLink "LeftistHeapsLaw" (22 : Nat) ({ cls := "LeftistHeaps", name := "insert", desc := "(II)I" } : Jvm.MethodName)) ∈ lw_all := lw_g (lw_at lw_m1 81 rfl) rfl
theorem q141 : (Jvm.Cond.methodLink "LeftistHeapsLaw" (27 : Nat) ({ cls := "LeftistHeaps", name := "delete", desc := "(I)I" } : Jvm.MethodName)) ∈ lw_all := lw_g (lw_at lw_m1 117 rfl) rfl
theorem q153 : (Jvm.Cond.methodLink "LeftistHeapsLaw" (32 : Nat) ({ cls := "LeftistHeaps", name := "findMin", desc := "(I)I" } : Jvm.MethodName)) ∈ lw_all := lw_g (lw_at lw_m1 129 rfl) rfl
theorem q161 : (Jvm.Cond.methodLink "LeftistHeapsLaw" (36 : Nat) ({ cls := "LeftistHeaps", name := "deleteMin", desc := "(I)I" } : Jvm.MethodName)) ∈ lw_all := lw_g (lw_at lw_m1 137 rfl) rfl
theorem q166 : (Jvm.Cond.methodLink "LeftistHeapsLaw" (40 : Nat) ({ cls := "LeftistHeaps", name := "meld", desc := "(II)I" } : Jvm.MethodName)) ∈ lw_all := lw_g (lw_at lw_m1 142 rfl) rfl
theorem q170 : (Jvm.Cond.methodLink "LeftistHeapsLaw" (44 : Nat) ({ cls := "LeftistHeaps", name := "keyOf", desc := "(I)I" } : Jvm.MethodName)) ∈ lw_all := lw_g (lw_at lw_m1 146 rfl) rfl
theorem q174 : (Jvm.Cond.methodLink "LeftistHeapsLaw" (48 : Nat) ({ cls := "LeftistHeaps", name := "size", desc := "(I)I" } : Jvm.MethodName)) ∈ lw_all := lw_g (lw_at lw_m1 150 rfl) rfl
theorem q178 : (Jvm.Cond.methodLink "LeftistHeapsLaw" (52 : Nat) ({ cls := "LeftistHeaps", name := "cellsFree", desc := "()I" } : Jvm.MethodName)) ∈ lw_all := lw_g (lw_at lw_m1 154 rfl) rfl
theorem q182 : (Jvm.Cond.methodLink "LeftistHeapsLaw" (56 : Nat) ({ cls := "LeftistHeaps", name := "node", desc := "(II)I" } : Jvm.MethodName)) ∈ lw_all := lw_g (lw_at lw_m1 158 rfl) rfl
theorem q186 : (Jvm.Cond.methodLink "LeftistHeapsLaw" (60 : Nat) ({ cls := "LeftistHeaps", name := "topOf", desc := "(I)I" } : Jvm.MethodName)) ∈ lw_all := lw_g (lw_at lw_m1 162 rfl) rfl
theorem q190 : (Jvm.Cond.classLink "LeftistHeapsLaw" (10 : Nat) "LeftistHeapsModel") ∈ lw_all := lw_g (lw_at lw_m1 166 rfl) rfl
theorem q192 : (Jvm.Cond.methodLink "LeftistHeapsLaw" (12 : Nat) ({ cls := "LeftistHeapsModel", name := "<init>", desc := "()V" } : Jvm.MethodName)) ∈ lw_all := lw_g (lw_at lw_m1 168 rfl) rfl
theorem q240 : (Jvm.Cond.methodLink "LeftistHeapsLaw" (16 : Nat) ({ cls := "LeftistHeapsModel", name := "init", desc := "()V" } : Jvm.MethodName)) ∈ lw_all := lw_g (lw_at lw_m1 216 rfl) rfl
theorem q241 : (Jvm.Cond.methodLink "LeftistHeapsLaw" (21 : Nat) ({ cls := "LeftistHeapsModel", name := "newHeap", desc := "()I" } : Jvm.MethodName)) ∈ lw_all := lw_g (lw_at lw_m1 217 rfl) rfl
theorem q245 : (Jvm.Cond.methodLink "LeftistHeapsLaw" (26 : Nat) ({ cls := "LeftistHeapsModel", name := "insert", desc := "(II)I" } : Jvm.MethodName)) ∈ lw_all := lw_g (lw_at lw_m1 221 rfl) rfl
theorem q292 : (Jvm.Cond.methodLink "LeftistHeapsLaw" (31 : Nat) ({ cls := "LeftistHeapsModel", name := "delete", desc := "(I)I" } : Jvm.MethodName)) ∈ lw_all := lw_g (lw_at lw_m2 28 rfl) rfl
theorem q296 : (Jvm.Cond.methodLink "LeftistHeapsLaw" (35 : Nat) ({ cls := "LeftistHeapsModel", name := "findMin", desc := "(I)I" } : Jvm.MethodName)) ∈ lw_all := lw_g (lw_at lw_m2 32 rfl) rfl
theorem q300 : (Jvm.Cond.methodLink "LeftistHeapsLaw" (39 : Nat) ({ cls := "LeftistHeapsModel", name := "deleteMin", desc := "(I)I" } : Jvm.MethodName)) ∈ lw_all := lw_g (lw_at lw_m2 36 rfl) rfl
theorem q305 : (Jvm.Cond.methodLink "LeftistHeapsLaw" (43 : Nat) ({ cls := "LeftistHeapsModel", name := "meld", desc := "(II)I" } : Jvm.MethodName)) ∈ lw_all := lw_g (lw_at lw_m2 41 rfl) rfl
theorem q309 : (Jvm.Cond.methodLink "LeftistHeapsLaw" (47 : Nat) ({ cls := "LeftistHeapsModel", name := "keyOf", desc := "(I)I" } : Jvm.MethodName)) ∈ lw_all := lw_g (lw_at lw_m2 45 rfl) rfl
theorem q313 : (Jvm.Cond.methodLink "LeftistHeapsLaw" (51 : Nat) ({ cls := "LeftistHeapsModel", name := "size", desc := "(I)I" } : Jvm.MethodName)) ∈ lw_all := lw_g (lw_at lw_m2 49 rfl) rfl
theorem q321 : (Jvm.Cond.methodLink "LeftistHeapsLaw" (55 : Nat) ({ cls := "LeftistHeapsModel", name := "cellsFree", desc := "()I" } : Jvm.MethodName)) ∈ lw_all := lw_g (lw_at lw_m2 57 rfl) rfl
theorem q325 : (Jvm.Cond.methodLink "LeftistHeapsLaw" (59 : Nat) ({ cls := "LeftistHeapsModel", name := "node", desc := "(II)I" } : Jvm.MethodName)) ∈ lw_all := lw_g (lw_at lw_m2 61 rfl) rfl
theorem q333 : (Jvm.Cond.methodLink "LeftistHeapsLaw" (63 : Nat) ({ cls := "LeftistHeapsModel", name := "topOf", desc := "(I)I" } : Jvm.MethodName)) ∈ lw_all := lw_g (lw_at lw_m2 69 rfl) rfl
/-! the law's own entry -/
set_option maxRecDepth 100000
abbrev cL_law : ByteArray := code
theorem dL_law_0 : decode cL_law 0 = .ok (.new 7, 3) := by decide +kernel
theorem dL_law_3 : decode cL_law 3 = .ok (.dup, 1) := by decide +kernel
theorem dL_law_4 : decode cL_law 4 = .ok (.invokespecial 9, 3) := by decide +kernel
theorem dL_law_7 : decode cL_law 7 = .ok (.astore_n 1, 1) := by decide +kernel
theorem dL_law_8 : decode cL_law 8 = .ok (.new 10, 3) := by decide +kernel
theorem dL_law_11 : decode cL_law 11 = .ok (.dup, 1) := by decide +kernel
theorem dL_law_12 : decode cL_law 12 = .ok (.invokespecial 12, 3) := by decide +kernel
theorem dL_law_15 : decode cL_law 15 = .ok (.astore_n 2, 1) := by decide +kernel
theorem dL_law_16 : decode cL_law 16 = .ok (.iconst 0, 1) := by decide +kernel
theorem dL_law_17 : decode cL_law 17 = .ok (.istore_n 3, 1) := by decide +kernel
theorem dL_law_18 : decode cL_law 18 = .ok (.iload_n 3, 1) := by decide +kernel
theorem dL_law_19 : decode cL_law 19 = .ok (.aload_n 0, 1) := by decide +kernel
theorem dL_law_20 : decode cL_law 20 = .ok (.arraylength, 1) := by decide +kernel
theorem dL_law_21 : decode cL_law 21 = .ok (.iconst 3, 1) := by decide +kernel
theorem dL_law_22 : decode cL_law 22 = .ok (.isub, 1) := by decide +kernel
theorem dL_law_23 : decode cL_law 23 = .ok (.if_icmp .gt 353, 3) := by decide +kernel
theorem dL_law_26 : decode cL_law 26 = .ok (.aload_n 0, 1) := by decide +kernel
theorem dL_law_27 : decode cL_law 27 = .ok (.iload_n 3, 1) := by decide +kernel
theorem dL_law_28 : decode cL_law 28 = .ok (.iaload, 1) := by decide +kernel
theorem dL_law_29 : decode cL_law 29 = .ok (.bipush 15, 2) := by decide +kernel
theorem dL_law_31 : decode cL_law 31 = .ok (.iand, 1) := by decide +kernel
theorem dL_law_32 : decode cL_law 32 = .ok (.tableswitch 338 0 11 #[64, 75, 88, 121, 144, 167, 190, 223, 246, 269, 282, 315], 64) := by decide +kernel
theorem dL_law_96 : decode cL_law 96 = .ok (.aload_n 1, 1) := by decide +kernel
theorem dL_law_97 : decode cL_law 97 = .ok (.invokevirtual 13, 3) := by decide +kernel
theorem dL_law_100 : decode cL_law 100 = .ok (.aload_n 2, 1) := by decide +kernel
theorem dL_law_101 : decode cL_law 101 = .ok (.invokevirtual 16, 3) := by decide +kernel
theorem dL_law_104 : decode cL_law 104 = .ok (.goto 266, 3) := by decide +kernel
theorem dL_law_107 : decode cL_law 107 = .ok (.aload_n 1, 1) := by decide +kernel
theorem dL_law_108 : decode cL_law 108 = .ok (.invokevirtual 17, 3) := by decide +kernel
theorem dL_law_111 : decode cL_law 111 = .ok (.aload_n 2, 1) := by decide +kernel
theorem dL_law_112 : decode cL_law 112 = .ok (.invokevirtual 21, 3) := by decide +kernel
theorem dL_law_115 : decode cL_law 115 = .ok (.if_icmp .eq 255, 3) := by decide +kernel
theorem dL_law_118 : decode cL_law 118 = .ok (.iconst 0, 1) := by decide +kernel
theorem dL_law_119 : decode cL_law 119 = .ok (.ireturn, 1) := by decide +kernel
theorem dL_law_120 : decode cL_law 120 = .ok (.aload_n 1, 1) := by decide +kernel
theorem dL_law_121 : decode cL_law 121 = .ok (.aload_n 0, 1) := by decide +kernel
theorem dL_law_122 : decode cL_law 122 = .ok (.iload_n 3, 1) := by decide +kernel
theorem dL_law_123 : decode cL_law 123 = .ok (.iconst 1, 1) := by decide +kernel
theorem dL_law_124 : decode cL_law 124 = .ok (.iadd, 1) := by decide +kernel
theorem dL_law_125 : decode cL_law 125 = .ok (.iaload, 1) := by decide +kernel
theorem dL_law_126 : decode cL_law 126 = .ok (.aload_n 0, 1) := by decide +kernel
theorem dL_law_127 : decode cL_law 127 = .ok (.iload_n 3, 1) := by decide +kernel
theorem dL_law_128 : decode cL_law 128 = .ok (.iconst 2, 1) := by decide +kernel
theorem dL_law_129 : decode cL_law 129 = .ok (.iadd, 1) := by decide +kernel
theorem dL_law_130 : decode cL_law 130 = .ok (.iaload, 1) := by decide +kernel
theorem dL_law_131 : decode cL_law 131 = .ok (.invokevirtual 22, 3) := by decide +kernel
theorem dL_law_134 : decode cL_law 134 = .ok (.aload_n 2, 1) := by decide +kernel
theorem dL_law_135 : decode cL_law 135 = .ok (.aload_n 0, 1) := by decide +kernel
theorem dL_law_136 : decode cL_law 136 = .ok (.iload_n 3, 1) := by decide +kernel
theorem dL_law_137 : decode cL_law 137 = .ok (.iconst 1, 1) := by decide +kernel
theorem dL_law_138 : decode cL_law 138 = .ok (.iadd, 1) := by decide +kernel
theorem dL_law_139 : decode cL_law 139 = .ok (.iaload, 1) := by decide +kernel
theorem dL_law_140 : decode cL_law 140 = .ok (.aload_n 0, 1) := by decide +kernel
theorem dL_law_141 : decode cL_law 141 = .ok (.iload_n 3, 1) := by decide +kernel
theorem dL_law_142 : decode cL_law 142 = .ok (.iconst 2, 1) := by decide +kernel
theorem dL_law_143 : decode cL_law 143 = .ok (.iadd, 1) := by decide +kernel
theorem dL_law_144 : decode cL_law 144 = .ok (.iaload, 1) := by decide +kernel
theorem dL_law_145 : decode cL_law 145 = .ok (.invokevirtual 26, 3) := by decide +kernel
theorem dL_law_148 : decode cL_law 148 = .ok (.if_icmp .eq 222, 3) := by decide +kernel
theorem dL_law_151 : decode cL_law 151 = .ok (.iconst 0, 1) := by decide +kernel
theorem dL_law_152 : decode cL_law 152 = .ok (.ireturn, 1) := by decide +kernel
theorem dL_law_153 : decode cL_law 153 = .ok (.aload_n 1, 1) := by decide +kernel
theorem dL_law_154 : decode cL_law 154 = .ok (.aload_n 0, 1) := by decide +kernel
theorem dL_law_155 : decode cL_law 155 = .ok (.iload_n 3, 1) := by decide +kernel
theorem dL_law_156 : decode cL_law 156 = .ok (.iconst 1, 1) := by decide +kernel
theorem dL_law_157 : decode cL_law 157 = .ok (.iadd, 1) := by decide +kernel
theorem dL_law_158 : decode cL_law 158 = .ok (.iaload, 1) := by decide +kernel
theorem dL_law_159 : decode cL_law 159 = .ok (.invokevirtual 27, 3) := by decide +kernel
theorem dL_law_162 : decode cL_law 162 = .ok (.aload_n 2, 1) := by decide +kernel
theorem dL_law_163 : decode cL_law 163 = .ok (.aload_n 0, 1) := by decide +kernel
theorem dL_law_164 : decode cL_law 164 = .ok (.iload_n 3, 1) := by decide +kernel
theorem dL_law_165 : decode cL_law 165 = .ok (.iconst 1, 1) := by decide +kernel
theorem dL_law_166 : decode cL_law 166 = .ok (.iadd, 1) := by decide +kernel
theorem dL_law_167 : decode cL_law 167 = .ok (.iaload, 1) := by decide +kernel
theorem dL_law_168 : decode cL_law 168 = .ok (.invokevirtual 31, 3) := by decide +kernel
theorem dL_law_171 : decode cL_law 171 = .ok (.if_icmp .eq 199, 3) := by decide +kernel
theorem dL_law_174 : decode cL_law 174 = .ok (.iconst 0, 1) := by decide +kernel
theorem dL_law_175 : decode cL_law 175 = .ok (.ireturn, 1) := by decide +kernel
theorem dL_law_176 : decode cL_law 176 = .ok (.aload_n 1, 1) := by decide +kernel
theorem dL_law_177 : decode cL_law 177 = .ok (.aload_n 0, 1) := by decide +kernel
theorem dL_law_178 : decode cL_law 178 = .ok (.iload_n 3, 1) := by decide +kernel
theorem dL_law_179 : decode cL_law 179 = .ok (.iconst 1, 1) := by decide +kernel
theorem dL_law_180 : decode cL_law 180 = .ok (.iadd, 1) := by decide +kernel
theorem dL_law_181 : decode cL_law 181 = .ok (.iaload, 1) := by decide +kernel
theorem dL_law_182 : decode cL_law 182 = .ok (.invokevirtual 32, 3) := by decide +kernel
theorem dL_law_185 : decode cL_law 185 = .ok (.aload_n 2, 1) := by decide +kernel
theorem dL_law_186 : decode cL_law 186 = .ok (.aload_n 0, 1) := by decide +kernel
theorem dL_law_187 : decode cL_law 187 = .ok (.iload_n 3, 1) := by decide +kernel
theorem dL_law_188 : decode cL_law 188 = .ok (.iconst 1, 1) := by decide +kernel
theorem dL_law_189 : decode cL_law 189 = .ok (.iadd, 1) := by decide +kernel
theorem dL_law_190 : decode cL_law 190 = .ok (.iaload, 1) := by decide +kernel
theorem dL_law_191 : decode cL_law 191 = .ok (.invokevirtual 35, 3) := by decide +kernel
theorem dL_law_194 : decode cL_law 194 = .ok (.if_icmp .eq 176, 3) := by decide +kernel
theorem dL_law_197 : decode cL_law 197 = .ok (.iconst 0, 1) := by decide +kernel
theorem dL_law_198 : decode cL_law 198 = .ok (.ireturn, 1) := by decide +kernel
theorem dL_law_199 : decode cL_law 199 = .ok (.aload_n 1, 1) := by decide +kernel
theorem dL_law_200 : decode cL_law 200 = .ok (.aload_n 0, 1) := by decide +kernel
theorem dL_law_201 : decode cL_law 201 = .ok (.iload_n 3, 1) := by decide +kernel
theorem dL_law_202 : decode cL_law 202 = .ok (.iconst 1, 1) := by decide +kernel
theorem dL_law_203 : decode cL_law 203 = .ok (.iadd, 1) := by decide +kernel
theorem dL_law_204 : decode cL_law 204 = .ok (.iaload, 1) := by decide +kernel
theorem dL_law_205 : decode cL_law 205 = .ok (.invokevirtual 36, 3) := by decide +kernel
theorem dL_law_208 : decode cL_law 208 = .ok (.aload_n 2, 1) := by decide +kernel
theorem dL_law_209 : decode cL_law 209 = .ok (.aload_n 0, 1) := by decide +kernel
theorem dL_law_210 : decode cL_law 210 = .ok (.iload_n 3, 1) := by decide +kernel
theorem dL_law_211 : decode cL_law 211 = .ok (.iconst 1, 1) := by decide +kernel
theorem dL_law_212 : decode cL_law 212 = .ok (.iadd, 1) := by decide +kernel
theorem dL_law_213 : decode cL_law 213 = .ok (.iaload, 1) := by decide +kernel
theorem dL_law_214 : decode cL_law 214 = .ok (.invokevirtual 39, 3) := by decide +kernel
theorem dL_law_217 : decode cL_law 217 = .ok (.if_icmp .eq 153, 3) := by decide +kernel
theorem dL_law_220 : decode cL_law 220 = .ok (.iconst 0, 1) := by decide +kernel
theorem dL_law_221 : decode cL_law 221 = .ok (.ireturn, 1) := by decide +kernel
theorem dL_law_222 : decode cL_law 222 = .ok (.aload_n 1, 1) := by decide +kernel
theorem dL_law_223 : decode cL_law 223 = .ok (.aload_n 0, 1) := by decide +kernel
theorem dL_law_224 : decode cL_law 224 = .ok (.iload_n 3, 1) := by decide +kernel
theorem dL_law_225 : decode cL_law 225 = .ok (.iconst 1, 1) := by decide +kernel
theorem dL_law_226 : decode cL_law 226 = .ok (.iadd, 1) := by decide +kernel
theorem dL_law_227 : decode cL_law 227 = .ok (.iaload, 1) := by decide +kernel
theorem dL_law_228 : decode cL_law 228 = .ok (.aload_n 0, 1) := by decide +kernel
theorem dL_law_229 : decode cL_law 229 = .ok (.iload_n 3, 1) := by decide +kernel
theorem dL_law_230 : decode cL_law 230 = .ok (.iconst 2, 1) := by decide +kernel
theorem dL_law_231 : decode cL_law 231 = .ok (.iadd, 1) := by decide +kernel
theorem dL_law_232 : decode cL_law 232 = .ok (.iaload, 1) := by decide +kernel
theorem dL_law_233 : decode cL_law 233 = .ok (.invokevirtual 40, 3) := by decide +kernel
theorem dL_law_236 : decode cL_law 236 = .ok (.aload_n 2, 1) := by decide +kernel
theorem dL_law_237 : decode cL_law 237 = .ok (.aload_n 0, 1) := by decide +kernel
theorem dL_law_238 : decode cL_law 238 = .ok (.iload_n 3, 1) := by decide +kernel
theorem dL_law_239 : decode cL_law 239 = .ok (.iconst 1, 1) := by decide +kernel
theorem dL_law_240 : decode cL_law 240 = .ok (.iadd, 1) := by decide +kernel
theorem dL_law_241 : decode cL_law 241 = .ok (.iaload, 1) := by decide +kernel
theorem dL_law_242 : decode cL_law 242 = .ok (.aload_n 0, 1) := by decide +kernel
theorem dL_law_243 : decode cL_law 243 = .ok (.iload_n 3, 1) := by decide +kernel
theorem dL_law_244 : decode cL_law 244 = .ok (.iconst 2, 1) := by decide +kernel
theorem dL_law_245 : decode cL_law 245 = .ok (.iadd, 1) := by decide +kernel
theorem dL_law_246 : decode cL_law 246 = .ok (.iaload, 1) := by decide +kernel
theorem dL_law_247 : decode cL_law 247 = .ok (.invokevirtual 43, 3) := by decide +kernel
theorem dL_law_250 : decode cL_law 250 = .ok (.if_icmp .eq 120, 3) := by decide +kernel
theorem dL_law_253 : decode cL_law 253 = .ok (.iconst 0, 1) := by decide +kernel
theorem dL_law_254 : decode cL_law 254 = .ok (.ireturn, 1) := by decide +kernel
theorem dL_law_255 : decode cL_law 255 = .ok (.aload_n 1, 1) := by decide +kernel
theorem dL_law_256 : decode cL_law 256 = .ok (.aload_n 0, 1) := by decide +kernel
theorem dL_law_257 : decode cL_law 257 = .ok (.iload_n 3, 1) := by decide +kernel
theorem dL_law_258 : decode cL_law 258 = .ok (.iconst 1, 1) := by decide +kernel
theorem dL_law_259 : decode cL_law 259 = .ok (.iadd, 1) := by decide +kernel
theorem dL_law_260 : decode cL_law 260 = .ok (.iaload, 1) := by decide +kernel
theorem dL_law_261 : decode cL_law 261 = .ok (.invokevirtual 44, 3) := by decide +kernel
theorem dL_law_264 : decode cL_law 264 = .ok (.aload_n 2, 1) := by decide +kernel
theorem dL_law_265 : decode cL_law 265 = .ok (.aload_n 0, 1) := by decide +kernel
theorem dL_law_266 : decode cL_law 266 = .ok (.iload_n 3, 1) := by decide +kernel
theorem dL_law_267 : decode cL_law 267 = .ok (.iconst 1, 1) := by decide +kernel
theorem dL_law_268 : decode cL_law 268 = .ok (.iadd, 1) := by decide +kernel
theorem dL_law_269 : decode cL_law 269 = .ok (.iaload, 1) := by decide +kernel
theorem dL_law_270 : decode cL_law 270 = .ok (.invokevirtual 47, 3) := by decide +kernel
theorem dL_law_273 : decode cL_law 273 = .ok (.if_icmp .eq 97, 3) := by decide +kernel
theorem dL_law_276 : decode cL_law 276 = .ok (.iconst 0, 1) := by decide +kernel
theorem dL_law_277 : decode cL_law 277 = .ok (.ireturn, 1) := by decide +kernel
theorem dL_law_278 : decode cL_law 278 = .ok (.aload_n 1, 1) := by decide +kernel
theorem dL_law_279 : decode cL_law 279 = .ok (.aload_n 0, 1) := by decide +kernel
theorem dL_law_280 : decode cL_law 280 = .ok (.iload_n 3, 1) := by decide +kernel
theorem dL_law_281 : decode cL_law 281 = .ok (.iconst 1, 1) := by decide +kernel
theorem dL_law_282 : decode cL_law 282 = .ok (.iadd, 1) := by decide +kernel
theorem dL_law_283 : decode cL_law 283 = .ok (.iaload, 1) := by decide +kernel
theorem dL_law_284 : decode cL_law 284 = .ok (.invokevirtual 48, 3) := by decide +kernel
theorem dL_law_287 : decode cL_law 287 = .ok (.aload_n 2, 1) := by decide +kernel
theorem dL_law_288 : decode cL_law 288 = .ok (.aload_n 0, 1) := by decide +kernel
theorem dL_law_289 : decode cL_law 289 = .ok (.iload_n 3, 1) := by decide +kernel
theorem dL_law_290 : decode cL_law 290 = .ok (.iconst 1, 1) := by decide +kernel
theorem dL_law_291 : decode cL_law 291 = .ok (.iadd, 1) := by decide +kernel
theorem dL_law_292 : decode cL_law 292 = .ok (.iaload, 1) := by decide +kernel
theorem dL_law_293 : decode cL_law 293 = .ok (.invokevirtual 51, 3) := by decide +kernel
theorem dL_law_296 : decode cL_law 296 = .ok (.if_icmp .eq 74, 3) := by decide +kernel
theorem dL_law_299 : decode cL_law 299 = .ok (.iconst 0, 1) := by decide +kernel
theorem dL_law_300 : decode cL_law 300 = .ok (.ireturn, 1) := by decide +kernel
theorem dL_law_301 : decode cL_law 301 = .ok (.aload_n 1, 1) := by decide +kernel
theorem dL_law_302 : decode cL_law 302 = .ok (.invokevirtual 52, 3) := by decide +kernel
theorem dL_law_305 : decode cL_law 305 = .ok (.aload_n 2, 1) := by decide +kernel
theorem dL_law_306 : decode cL_law 306 = .ok (.invokevirtual 55, 3) := by decide +kernel
theorem dL_law_309 : decode cL_law 309 = .ok (.if_icmp .eq 61, 3) := by decide +kernel
theorem dL_law_312 : decode cL_law 312 = .ok (.iconst 0, 1) := by decide +kernel
theorem dL_law_313 : decode cL_law 313 = .ok (.ireturn, 1) := by decide +kernel
theorem dL_law_314 : decode cL_law 314 = .ok (.aload_n 1, 1) := by decide +kernel
theorem dL_law_315 : decode cL_law 315 = .ok (.aload_n 0, 1) := by decide +kernel
theorem dL_law_316 : decode cL_law 316 = .ok (.iload_n 3, 1) := by decide +kernel
theorem dL_law_317 : decode cL_law 317 = .ok (.iconst 1, 1) := by decide +kernel
theorem dL_law_318 : decode cL_law 318 = .ok (.iadd, 1) := by decide +kernel
theorem dL_law_319 : decode cL_law 319 = .ok (.iaload, 1) := by decide +kernel
theorem dL_law_320 : decode cL_law 320 = .ok (.aload_n 0, 1) := by decide +kernel
theorem dL_law_321 : decode cL_law 321 = .ok (.iload_n 3, 1) := by decide +kernel
theorem dL_law_322 : decode cL_law 322 = .ok (.iconst 2, 1) := by decide +kernel
theorem dL_law_323 : decode cL_law 323 = .ok (.iadd, 1) := by decide +kernel
theorem dL_law_324 : decode cL_law 324 = .ok (.iaload, 1) := by decide +kernel
theorem dL_law_325 : decode cL_law 325 = .ok (.invokevirtual 56, 3) := by decide +kernel
theorem dL_law_328 : decode cL_law 328 = .ok (.aload_n 2, 1) := by decide +kernel
theorem dL_law_329 : decode cL_law 329 = .ok (.aload_n 0, 1) := by decide +kernel
theorem dL_law_330 : decode cL_law 330 = .ok (.iload_n 3, 1) := by decide +kernel
theorem dL_law_331 : decode cL_law 331 = .ok (.iconst 1, 1) := by decide +kernel
theorem dL_law_332 : decode cL_law 332 = .ok (.iadd, 1) := by decide +kernel
theorem dL_law_333 : decode cL_law 333 = .ok (.iaload, 1) := by decide +kernel
theorem dL_law_334 : decode cL_law 334 = .ok (.aload_n 0, 1) := by decide +kernel
theorem dL_law_335 : decode cL_law 335 = .ok (.iload_n 3, 1) := by decide +kernel
theorem dL_law_336 : decode cL_law 336 = .ok (.iconst 2, 1) := by decide +kernel
theorem dL_law_337 : decode cL_law 337 = .ok (.iadd, 1) := by decide +kernel
theorem dL_law_338 : decode cL_law 338 = .ok (.iaload, 1) := by decide +kernel
theorem dL_law_339 : decode cL_law 339 = .ok (.invokevirtual 59, 3) := by decide +kernel
theorem dL_law_342 : decode cL_law 342 = .ok (.if_icmp .eq 28, 3) := by decide +kernel
theorem dL_law_345 : decode cL_law 345 = .ok (.iconst 0, 1) := by decide +kernel
theorem dL_law_346 : decode cL_law 346 = .ok (.ireturn, 1) := by decide +kernel
theorem dL_law_347 : decode cL_law 347 = .ok (.aload_n 1, 1) := by decide +kernel
theorem dL_law_348 : decode cL_law 348 = .ok (.aload_n 0, 1) := by decide +kernel
theorem dL_law_349 : decode cL_law 349 = .ok (.iload_n 3, 1) := by decide +kernel
theorem dL_law_350 : decode cL_law 350 = .ok (.iconst 1, 1) := by decide +kernel
theorem dL_law_351 : decode cL_law 351 = .ok (.iadd, 1) := by decide +kernel
theorem dL_law_352 : decode cL_law 352 = .ok (.iaload, 1) := by decide +kernel
theorem dL_law_353 : decode cL_law 353 = .ok (.invokevirtual 60, 3) := by decide +kernel
theorem dL_law_356 : decode cL_law 356 = .ok (.aload_n 2, 1) := by decide +kernel
theorem dL_law_357 : decode cL_law 357 = .ok (.aload_n 0, 1) := by decide +kernel
theorem dL_law_358 : decode cL_law 358 = .ok (.iload_n 3, 1) := by decide +kernel
theorem dL_law_359 : decode cL_law 359 = .ok (.iconst 1, 1) := by decide +kernel
theorem dL_law_360 : decode cL_law 360 = .ok (.iadd, 1) := by decide +kernel
theorem dL_law_361 : decode cL_law 361 = .ok (.iaload, 1) := by decide +kernel
theorem dL_law_362 : decode cL_law 362 = .ok (.invokevirtual 63, 3) := by decide +kernel
theorem dL_law_365 : decode cL_law 365 = .ok (.if_icmp .eq 5, 3) := by decide +kernel
theorem dL_law_368 : decode cL_law 368 = .ok (.iconst 0, 1) := by decide +kernel
theorem dL_law_369 : decode cL_law 369 = .ok (.ireturn, 1) := by decide +kernel
theorem dL_law_370 : decode cL_law 370 = .ok (.iinc 3 3, 3) := by decide +kernel
theorem dL_law_373 : decode cL_law 373 = .ok (.goto (-355), 3) := by decide +kernel
theorem dL_law_376 : decode cL_law 376 = .ok (.iconst 1, 1) := by decide +kernel
theorem dL_law_377 : decode cL_law 377 = .ok (.ireturn, 1) := by decide +kernel
end
section
/-! THE GENERIC LAYER: an object with its arrays is one world, a function of a state (field number, place); contracts, calls and returns over it -/
abbrev CS : Type := Nat → Nat → Int32
abbrev vwCl : List vw_C := [(RX0, TX0, 18), (RX1, TX1, 13)]
/-- the addresses do not depend on the state -/
def gW (w : CS → va_W) : Prop := ∀ σ τ : CS, (w σ).map Prod.fst = (w τ).map Prod.fst
def gF (w : CS → va_W) (sz : Nat) : Nat → Prop := va_A (w (fun _ _ => 0)) sz
def gP (D : va_G) (w : CS → va_W) (A : Nat → Prop) (H0 : Heap) (σ : CS) (H : Heap) (locs : List Loc) : Prop := va_P D vwCl (w σ) H ∧ va_D A (w σ) ∧ va_S A H0 H locs
def gB (D : va_G) (w : CS → va_W) (tys : List (ClassId × FieldType)) (sz : Nat) (σ : CS) (U : State) : Prop := U.heap.size = sz ∧ va_P D vwCl (w σ) U.heap ∧ va_K D vwCl tys U ∧ va_D (fun _ => True) (w σ)
def gAf (D : va_G) (w : CS → va_W) (tys : List (ClassId × FieldType)) (A : Nat → Prop) (σ : CS) (t : State) : Prop := va_P D vwCl (w σ) t.heap ∧ va_K D vwCl tys t ∧ va_D A (w σ)
/-- a contract with an int answer: from the state σ it answers r and leaves σ' with post r σ' -/
abbrev gMi (l : Launch) (D : va_G) (w : CS → va_W) (tys : List (ClassId × FieldType)) (y : MethodName) (b : ByteArray) (L : Nat) (r : Option FieldType) (rm : Room) (av : List Value) (σ : CS) (post : Int32 → CS → Prop) : Prop :=
  ∀ sz : Nat, Met l y (ws_ y b L r) rm (va_Pc av (gB D w tys sz σ)) (va_Qi post (gAf D w tys (gF w sz)) (gF w sz)) 0 0 (gF w sz)
/-- a contract without an answer -/
abbrev gMv (l : Launch) (D : va_G) (w : CS → va_W) (tys : List (ClassId × FieldType)) (y : MethodName) (b : ByteArray) (L : Nat) (r : Option FieldType) (rm : Room) (av : List Value) (σ : CS) (post : CS → Prop) : Prop :=
  ∀ sz : Nat, Met l y (ws_ y b L r) rm (va_Pc av (gB D w tys sz σ)) (va_Qv post (gAf D w tys (gF w sz)) (gF w sz)) 0 0 (gF w sz)
/-- what stays all through a method -/
abbrev gS (p : Program) (s : State) (m : MethodId) (meth : Method) (c : Code) (cc : ByteArray) (nL : Nat) (args : Array Value) (own : String) (ret : Option FieldType) (D : va_G) (tys : List (ClassId × FieldType)) : Prop :=
  p.tables.exec = Jvm.exec ∧ c.code = cc ∧ c.maxLocals = nL ∧ s.vm.findClass own = some m.cls ∧ (∀ w ∈ lw_all, w.before args s = true) ∧ va_K D vwCl tys s ∧ meth.sig.returnType = ret ∧ meth.locks = false
theorem gA_iff {ws : va_W} {sz x : Nat} : va_A ws sz x ↔ x ∈ ws.map Prod.fst ∨ sz ≤ x := by
  constructor
  · rintro (⟨k, e, h⟩ | h)
    · exact Or.inl (List.mem_map.mpr ⟨(x, e), List.mem_of_getElem? h, rfl⟩)
    · exact Or.inr h
  · rintro (h | h)
    · obtain ⟨⟨a, e⟩, h1, h2⟩ := List.mem_map.mp h
      obtain ⟨k, hk⟩ := List.getElem?_of_mem h1
      have h2 : a = x := h2
      subst h2
      exact Or.inl ⟨k, e, hk⟩
    · exact Or.inr h
theorem gF_eq {w : CS → va_W} (hw : gW w) (σ : CS) (sz : Nat) : va_A (w σ) sz = gF w sz := by
  funext x
  unfold gF
  exact propext (by rw [gA_iff, gA_iff, hw σ (fun _ _ => 0)])
theorem gD_congr {A : Nat → Prop} {ws ws' : va_W} (h : ws.map Prod.fst = ws'.map Prod.fst) (hD : va_D A ws) : va_D A ws' := by
  have key : ∀ (k : Nat) (q : Nat × va_E), ws'[k]? = some q → ∃ q0, ws[k]? = some q0 ∧ q0.1 = q.1 := by
    intro k q hk
    have h1 : (ws'.map Prod.fst)[k]? = some q.1 := by rw [List.getElem?_map, hk]; rfl
    rw [← h, List.getElem?_map] at h1
    cases hi : ws[k]? with
    | none => rw [hi] at h1; cases h1
    | some q0 => rw [hi] at h1; exact ⟨q0, rfl, Option.some.inj h1⟩
  refine ⟨fun i j x y hi hj hxy => ?_, fun k q hk => ?_⟩
  · obtain ⟨x0, h1, h2⟩ := key i x hi
    obtain ⟨y0, h3, h4⟩ := key j y hj
    exact hD.1 i j x0 y0 h1 h3 (h2.trans (hxy.trans h4.symm))
  · obtain ⟨q0, h1, h2⟩ := key k q hk
    rw [← h2]
    exact hD.2 k q0 h1
theorem gP_left {D : va_G} {w1 w2 : va_W} {H : Heap} (h : va_P D vwCl (w1 ++ w2) H) : va_P D vwCl w1 H := fun k q hk => h k q (by rw [List.getElem?_append_left (List.getElem?_eq_some_iff.mp hk).1]; exact hk)
theorem gP_right {D : va_G} {w1 w2 : va_W} {H : Heap} (h : va_P D vwCl (w1 ++ w2) H) : va_P D vwCl w2 H := fun k q hk => h (w1.length + k) q (by rw [List.getElem?_append_right (Nat.le_add_right _ _), Nat.add_sub_cancel_left]; exact hk)
theorem gD_left {A : Nat → Prop} {w1 w2 : va_W} (h : va_D A (w1 ++ w2)) : va_D A w1 :=
  ⟨fun i j x y hi hj hxy => h.1 i j x y (by rw [List.getElem?_append_left (List.getElem?_eq_some_iff.mp hi).1]; exact hi) (by rw [List.getElem?_append_left (List.getElem?_eq_some_iff.mp hj).1]; exact hj) hxy,
   fun k q hk => h.2 k q (by rw [List.getElem?_append_left (List.getElem?_eq_some_iff.mp hk).1]; exact hk)⟩
/-- two worlds side by side, in the other order -/
theorem gD_swap {A : Nat → Prop} {w1 w2 : va_W} (h : va_D A (w1 ++ w2)) : va_D A (w2 ++ w1) := by
  have a2 : ∀ (k : Nat) (q : Nat × va_E), w2[k]? = some q → (w1 ++ w2)[w1.length + k]? = some q := fun k q hk => by rw [List.getElem?_append_right (Nat.le_add_right _ _), Nat.add_sub_cancel_left]; exact hk
  have a1 : ∀ (k : Nat) (q : Nat × va_E), w1[k]? = some q → (w1 ++ w2)[k]? = some q := fun k q hk => by rw [List.getElem?_append_left (List.getElem?_eq_some_iff.mp hk).1]; exact hk
  refine va_D.app ⟨fun i j x y hi hj hxy => ?_, fun k q hk => h.2 _ q (a2 k q hk)⟩ (gD_left h) (fun i j x y hi hj hxy => ?_)
  · have := h.1 _ _ x y (a2 i x hi) (a2 j y hj) hxy
    omega
  · have h1 := h.1 _ _ x y (a2 i x hi) (a1 j y hj) hxy
    have h2 := (List.getElem?_eq_some_iff.mp hj).1
    omega
/-- behind a call on the world w, beside cells wr that it does not reach -/
theorem gJoin {D : va_G} {w : CS → va_W} {wr : va_W} {A : Nat → Prop} {σ σ' : CS} {H H1 : Heap} (hw : gW w) (hP : va_P D vwCl (w σ ++ wr) H) (hD : va_D A (w σ ++ wr)) (hk : ∀ q : Nat, q < H.size → ¬ gF w H.size q → H1[q]? = H[q]?) (hP1 : va_P D vwCl (w σ') H1) : va_P D vwCl (w σ' ++ wr) H1 ∧ va_D A (w σ' ++ wr) := by
  refine ⟨va_P.app hP1 (fun k q hq => ?_), gD_congr (by rw [List.map_append, List.map_append, hw σ σ']) hD⟩
  have h1 : (w σ ++ wr)[(w σ).length + k]? = some q := by rw [List.getElem?_append_right (Nat.le_add_right _ _), Nat.add_sub_cancel_left]; exact hq
  have hat := hP _ q h1
  refine hat.kept (hk q.1 hat.lt (fun hf => ?_))
  rw [← gF_eq hw σ] at hf
  rcases hf with ⟨j, e, hj⟩ | hj
  · have hjl := (List.getElem?_eq_some_iff.mp hj).1
    have h2 : (w σ ++ wr)[j]? = some (q.1, e) := by rw [List.getElem?_append_left hjl]; exact hj
    have := hD.1 _ _ _ _ h1 h2 rfl
    omega
  · have := hat.lt
    omega
theorem gFA {D : va_G} {w : CS → va_W} {A : Nat → Prop} {H0 H : Heap} {σ : CS} {locs : List Loc} (hw : gW w) (hD : va_D A (w σ)) (hS : va_S A H0 H locs) (hA : ∀ q, H0.size ≤ q → A q) : ∀ q, gF w H.size q → A q := by
  intro q h
  rw [← gF_eq hw σ] at h
  rcases h with ⟨k, e, h⟩ | h
  · exact hD.2 k _ h
  · exact hA q (Nat.le_trans hS.1 h)
section GEN
variable {p : Program} {l : Launch} {e : Env} {R : Room} {s : State} {m : MethodId} {args : Array Value} {below : List Frame} {meth : Method} {c : Code} {H : Heap} {locs : List Loc} {cells slots : Nat} {Q : State → Prop}
variable {cc : ByteArray} {nL : Nat} {own : String} {D : va_G} {w : CS → va_W} {wr : va_W} {A : Nat → Prop} {H0 : Heap} {σ : CS} {tys : List (ClassId × FieldType)} {y : MethodName} {bytes : ByteArray} {maxL index n : Nat} {ret : Option FieldType} {rm : Room} {C : String} {As rest st0 : List Value} {o ci : Nat} {fs : List Value} {r : vw_C} {pc : Nat} {ls : Array Slot}
/-- a call through an object, its world beside other cells -/
theorem gCallIF (S : CallFix p m c cc nL s args lw_all own) (hK : va_K D vwCl tys s) (hw : gW w) (hP : va_P D vwCl (w σ ++ wr) H) (hD : va_D A (w σ ++ wr)) (hS : va_S A H0 H locs) (hA : ∀ q, H0.size ≤ q → A q) {post : Int32 → CS → Prop}
    (hM : gMi l D w tys y bytes maxL ret rm (.ref o :: As) σ post) (cw : CallW R s args own C index y bytes maxL ret (ws_ y bytes maxL ret) rm 0 0 n) (hn : As.length = n) (he : (w σ)[0]? = some (o, .inr (ci, fs))) (hc : vwCl[ci]? = some r) (hrC : r.1 = C) (hsize : ls.size = nL) (hst : st0 = As.reverse ++ .ref o :: rest) (hW : (rest.map fun v => v.category).sum ≤ 8) (hdg : decode cc pc = .ok (.invokevirtual index, 3)) (hf : cells ≤ R.cells ∧ slots ≤ R.slots)
    (kk : ∀ (r : Int32) (σ' : CS) (H' : Heap) (locs' : List Loc), post r σ' → va_P D vwCl (w σ' ++ wr) H' → va_D A (w σ' ++ wr) → va_S A H0 H' locs' → W p l e R s m args below meth c H' locs' cells slots Q (F0 m (pc + 3) ls (.int r :: rest))) : W p l e R s m args below meth c H locs cells slots Q (F0 m pc ls st0) := by
  subst hst
  subst hrC
  have hPc : va_P D vwCl (w σ) H := gP_left hP
  have hDc : va_D A (w σ) := gD_left hD
  have hFc : ∀ q, gF w H.size q → A q := gFA (D := D) hw hDc hS hA
  refine va_calli (va_runV (As := As) (rest := rest) S (hM H.size) cw ⟨fun a U g mk q => by obtain ⟨q0, q1, qP, qK, qD⟩ := q; exact ⟨q0, q1, qP, va_K.moved (u := U) (U := U.calling g mk a) (Vm.Alike.refl U.vm) qK, qD⟩, va_recv hK hPc hc he, fun U hU hW => ⟨rfl, by rw [hU], by rw [hU]; exact hPc, va_K.moved hW.alike hK, hDc.weaken (fun _ _ _ _ => trivial)⟩⟩ rfl hn hsize rfl (lv_room hW) hdg hf) hS (fun q _ h => hFc q h) hFc (fun r u t H1 locs ht hvm hw1 hB hz1 hk1 hS => ?_)
  obtain ⟨hP1, hK1, hD1⟩ := hB
  rw [ht] at hP1
  obtain ⟨hP2, hD2⟩ := gJoin hw hP hD hk1 hP1
  exact kk r u H1 locs hw1 hP2 hD2 hS
theorem gCallVF (S : CallFix p m c cc nL s args lw_all own) (hK : va_K D vwCl tys s) (hw : gW w) (hP : va_P D vwCl (w σ ++ wr) H) (hD : va_D A (w σ ++ wr)) (hS : va_S A H0 H locs) (hA : ∀ q, H0.size ≤ q → A q) {post : CS → Prop}
    (hM : gMv l D w tys y bytes maxL ret rm (.ref o :: As) σ post) (cw : CallW R s args own C index y bytes maxL ret (ws_ y bytes maxL ret) rm 0 0 n) (hn : As.length = n) (he : (w σ)[0]? = some (o, .inr (ci, fs))) (hc : vwCl[ci]? = some r) (hrC : r.1 = C) (hsize : ls.size = nL) (hst : st0 = As.reverse ++ .ref o :: rest) (hW : (rest.map fun v => v.category).sum ≤ 8) (hdg : decode cc pc = .ok (.invokevirtual index, 3)) (hf : cells ≤ R.cells ∧ slots ≤ R.slots)
    (kk : ∀ (σ' : CS) (H' : Heap) (locs' : List Loc), post σ' → va_P D vwCl (w σ' ++ wr) H' → va_D A (w σ' ++ wr) → va_S A H0 H' locs' → W p l e R s m args below meth c H' locs' cells slots Q (F0 m (pc + 3) ls rest)) : W p l e R s m args below meth c H locs cells slots Q (F0 m pc ls st0) := by
  subst hst
  subst hrC
  have hPc : va_P D vwCl (w σ) H := gP_left hP
  have hDc : va_D A (w σ) := gD_left hD
  have hFc : ∀ q, gF w H.size q → A q := gFA (D := D) hw hDc hS hA
  refine va_callv (va_runV (As := As) (rest := rest) S (hM H.size) cw ⟨fun a U g mk q => by obtain ⟨q0, q1, qP, qK, qD⟩ := q; exact ⟨q0, q1, qP, va_K.moved (u := U) (U := U.calling g mk a) (Vm.Alike.refl U.vm) qK, qD⟩, va_recv hK hPc hc he, fun U hU hW => ⟨rfl, by rw [hU], by rw [hU]; exact hPc, va_K.moved hW.alike hK, hDc.weaken (fun _ _ _ _ => trivial)⟩⟩ rfl hn hsize rfl (lv_room hW) hdg hf) hS (fun q _ h => hFc q h) hFc (fun u t H1 locs ht hvm hw1 hB hz1 hk1 hS => ?_)
  obtain ⟨hP1, hK1, hD1⟩ := hB
  rw [ht] at hP1
  obtain ⟨hP2, hD2⟩ := gJoin hw hP hD hk1 hP1
  exact kk u H1 locs hw1 hP2 hD2 hS
/-- a call inside the class: the same world -/
theorem gCallI (S : gS p s m meth c cc nL args own ret D tys) (hw : gW w) (Y : gP D w A H0 σ H locs) (hA : ∀ q, H0.size ≤ q → A q) {ret' : Option FieldType} {post : Int32 → CS → Prop}
    (hM : gMi l D w tys y bytes maxL ret' rm (.ref o :: As) σ post) (cw : CallW R s args own C index y bytes maxL ret' (ws_ y bytes maxL ret') rm 0 0 n) (hn : As.length = n) (he : (w σ)[0]? = some (o, .inr (ci, fs))) (hc : vwCl[ci]? = some r) (hrC : r.1 = C) (hsize : ls.size = nL) (hst : st0 = As.reverse ++ .ref o :: rest) (hW : (rest.map fun v => v.category).sum ≤ 8) (hdg : decode cc pc = .ok (.invokevirtual index, 3)) (hf : cells ≤ R.cells ∧ slots ≤ R.slots)
    (kk : ∀ (r : Int32) (σ' : CS) (H' : Heap) (locs' : List Loc), post r σ' → gP D w A H0 σ' H' locs' → W p l e R s m args below meth c H' locs' cells slots Q (F0 m (pc + 3) ls (.int r :: rest))) : W p l e R s m args below meth c H locs cells slots Q (F0 m pc ls st0) := by
  obtain ⟨hx, hb, hml, hown, hts, hK, -, -⟩ := S
  refine gCallIF (wr := []) ⟨hx, hb, hml, hown, hts⟩ hK hw (by rw [List.append_nil]; exact Y.1) (by rw [List.append_nil]; exact Y.2.1) Y.2.2 hA hM cw hn he hc hrC hsize hst hW hdg hf (fun r σ' H' locs' h1 h2 h3 h4 => ?_)
  rw [List.append_nil] at h2 h3
  exact kk r σ' H' locs' h1 ⟨h2, h3, h4⟩
theorem gCallV (S : gS p s m meth c cc nL args own ret D tys) (hw : gW w) (Y : gP D w A H0 σ H locs) (hA : ∀ q, H0.size ≤ q → A q) {ret' : Option FieldType} {post : CS → Prop}
    (hM : gMv l D w tys y bytes maxL ret' rm (.ref o :: As) σ post) (cw : CallW R s args own C index y bytes maxL ret' (ws_ y bytes maxL ret') rm 0 0 n) (hn : As.length = n) (he : (w σ)[0]? = some (o, .inr (ci, fs))) (hc : vwCl[ci]? = some r) (hrC : r.1 = C) (hsize : ls.size = nL) (hst : st0 = As.reverse ++ .ref o :: rest) (hW : (rest.map fun v => v.category).sum ≤ 8) (hdg : decode cc pc = .ok (.invokevirtual index, 3)) (hf : cells ≤ R.cells ∧ slots ≤ R.slots)
    (kk : ∀ (σ' : CS) (H' : Heap) (locs' : List Loc), post σ' → gP D w A H0 σ' H' locs' → W p l e R s m args below meth c H' locs' cells slots Q (F0 m (pc + 3) ls rest)) : W p l e R s m args below meth c H locs cells slots Q (F0 m pc ls st0) := by
  obtain ⟨hx, hb, hml, hown, hts, hK, -, -⟩ := S
  refine gCallVF (wr := []) ⟨hx, hb, hml, hown, hts⟩ hK hw (by rw [List.append_nil]; exact Y.1) (by rw [List.append_nil]; exact Y.2.1) Y.2.2 hA hM cw hn he hc hrC hsize hst hW hdg hf (fun σ' H' locs' h1 h2 h3 h4 => ?_)
  rw [List.append_nil] at h2 h3
  exact kk σ' H' locs' h1 ⟨h2, h3, h4⟩
/-- a static method of ints alone: no cell is touched -/
theorem gCallS (S : gS p s m meth c cc nL args own ret D tys) (Y : gP D w A H0 σ H locs) {ret' : Option FieldType} {post : Int32 → Unit → Prop}
    (hM : Met l y (ws_ y bytes maxL ret') rm (va_Pc As (fun _ => True)) (va_Qi post (fun _ _ => True) (fun _ => False)) 0 0 (fun _ => False)) (cw : CallB R s args own index y bytes maxL ret' (ws_ y bytes maxL ret') rm 0 0 n ∧ (Cond.static y).before args s = true) (hn : As.length = n) (hsize : ls.size = nL) (hst : st0 = As.reverse ++ rest) (hW : (rest.map fun v => v.category).sum ≤ 8) (hdg : decode cc pc = .ok (.invokestatic index, 3)) (hf : cells ≤ R.cells ∧ slots ≤ R.slots)
    (kk : ∀ (r : Int32) (H' : Heap) (locs' : List Loc), post r () → gP D w A H0 σ H' locs' → W p l e R s m args below meth c H' locs' cells slots Q (F0 m (pc + 3) ls (.int r :: rest))) : W p l e R s m args below meth c H locs cells slots Q (F0 m pc ls st0) := by
  subst hst
  obtain ⟨hx, hb, hml, hown, hts, hK, -, -⟩ := S
  refine va_calli (va_runS (As := As) (rest := rest) ⟨hx, hb, hml, hown, hts⟩ hM cw ⟨fun a U g mk q => ⟨q.1, trivial⟩, fun U hU hW => ⟨rfl, trivial⟩⟩ rfl hn hsize rfl (lv_room hW) hdg hf) Y.2.2 (fun _ _ h => h.elim) (fun _ h => h.elim) (fun r u t H1 locs ht hvm hw1 hB hz1 hk1 hS => ?_)
  exact kk r H1 locs hw1 ⟨Y.1.kept (fun k q hq => hk1 q.1 (Y.1 k q hq).lt (fun h => h)), Y.2.1, hS⟩
/-- two ways meet again with one number on the stack -/
theorem gCut (C : Int32 → Prop) {pc2 : Nat} {ls2 : Array Slot} {g : JFrame} (k1 : (∀ v : Int32, C v → W p l e R s m args below meth c H locs cells slots Q (F0 m pc2 ls2 (.int v :: rest))) → W p l e R s m args below meth c H locs cells slots Q g) (k2 : ∀ v : Int32, C v → W p l e R s m args below meth c H locs cells slots Q (F0 m pc2 ls2 (.int v :: rest))) : W p l e R s m args below meth c H locs cells slots Q g := k1 k2
/-- returns -/
theorem gIret {post : Int32 → CS → Prop} {v : Int32} {ty : FieldType} (S : gS p s m meth c cc nL args own (some ty) D tys) (Y : gP D w A s.heap σ H locs) (hn : narrow ty (.int v) = .int v) (hp : post v σ) (hdg : decode cc pc = .ok (.ireturn, 1)) : W p l e R s m args below meth c H locs 0 0 (MQ below (va_Qi post (gAf D w tys A) A) args s 0 0 A) (F0 m pc ls [.int v]) := by
  obtain ⟨hx, hb, -, -, -, hK, hr, hlocks⟩ := S
  exact W.zret hx hb hr hn (fun t ht hW => ⟨⟨v, σ, rfl, hp, by rw [ht]; exact Y.1, va_K.moved hW.alike hK, Y.2.1⟩, Y.2.2.F ht⟩) Y.2.2.2.2 hdg hlocks
theorem gVret {post : CS → Prop} (S : gS p s m meth c cc nL args own none D tys) (Y : gP D w A s.heap σ H locs) (hp : post σ) (hdg : decode cc pc = .ok (.return_, 1)) : W p l e R s m args below meth c H locs 0 0 (MQ below (va_Qv post (gAf D w tys A) A) args s 0 0 A) (F0 m pc ls []) := by
  obtain ⟨hx, hb, -, -, -, hK, hr, hlocks⟩ := S
  exact W.vret hx hb hr (fun t ht hW => ⟨⟨σ, rfl, hp, by rw [ht]; exact Y.1, va_K.moved hW.alike hK, Y.2.1⟩, Y.2.2.F ht⟩) Y.2.2.2.2 hdg hlocks
/-- a method's entry -/
theorem gEnter {Qc : Array Value → State → Outcome → State → Prop} {mc ms : Nat} {free : Addr → Prop} {av : List Value} {lv : List (Nat × Value)} {sz : Nat} (hw : gW w) (hy : plainName y.cls = true) (hyo : y.cls = own) (hlen : (lg_sl av).length ≤ nL) (hlv : lv_args 0 av = lv)
    (body : ∀ (p : Program) (e : Env) (s : State) (m : MethodId) (below : List Frame) (meth : Method) (c : Code) (ls : Array Slot), gS p s m meth c cc nL av.toArray own ret D tys → (∀ q, s.heap.size ≤ q → gF w sz q) → gP D w (gF w sz) s.heap σ s.heap [] → lv_has ls nL lv → W p l e rm s m av.toArray below meth c s.heap [] 0 0 (MQ below Qc av.toArray s mc ms free) (F0 m 0 ls [])) : Met l y (ws_ y cc nL ret) rm (va_Pc av (gB D w tys sz σ)) Qc mc ms free := by
  refine Met.ofW (cc := cc) (maxL := nL) (ret := ret) hy rfl ?_
  intro p e s m args below meth c s₁ B hml hv
  obtain ⟨rfl, hsz, hP, hK, hD0⟩ := hv
  have hts := atoms_spec (ws := ws_ y cc nL ret) B.pre
  have hts : ∀ w ∈ lw_all, w.before _ s = true := fun w h => hts w (List.mem_cons_of_mem _ h)
  have hown' : s.vm.findClass own = some m.cls := hyo ▸ findClass_of_methodNamed B.named
  have hD := hD0.self (sz := sz)
  rw [gF_eq hw] at hD
  have hl := lv_entry av (n := nL) hlen
  rw [lg_entry_eq]
  rw [hlv] at hl
  exact body p e s m below meth c _ ⟨B.exec, B.bytes, hml, hown', hts, hK, B.returns, B.notSynchronized⟩ (fun q h => Or.inr (hsz ▸ h)) ⟨hP, hD, va_S.rf⟩ hl
end GEN
end
section
/-! LeftistHeaps: its world, and a row a field. Fields: 0 key, 1 left, 2 right, 3 rank, 4 used, 5 dead, 6 rootOf, 7 liveOf, 8 token, 9 leads, 10 heapOf, 11 tokenOf, 12 pile, 13 stack, 14 row, 15 free, 16 nHeaps, 17 tokens -/
def wX0 (dA : Nat → ClassId) (o : Nat) (q : Nat → Nat) (σ : CS) : va_W := [(o, .inr (0, [.ref (q 0), .ref (q 1), .ref (q 2), .ref (q 3), .ref (q 4), .ref (q 5), .ref (q 6), .ref (q 7), .ref (q 8), .ref (q 9), .ref (q 10), .ref (q 11), .ref (q 12), .ref (q 13), .ref (q 14), .int (σ 15 0), .int (σ 16 0), .int (σ 17 0)])), (q 0, .inl (dA 0, 60, .inl (σ 0))), (q 1, .inl (dA 1, 60, .inl (σ 1))), (q 2, .inl (dA 2, 60, .inl (σ 2))), (q 3, .inl (dA 3, 60, .inl (σ 3))), (q 4, .inl (dA 4, 60, .inl (σ 4))), (q 5, .inl (dA 5, 60, .inl (σ 5))), (q 6, .inl (dA 6, 10, .inl (σ 6))), (q 7, .inl (dA 7, 10, .inl (σ 7))), (q 8, .inl (dA 8, 60, .inl (σ 8))), (q 9, .inl (dA 9, 1100, .inl (σ 9))), (q 10, .inl (dA 10, 1100, .inl (σ 10))), (q 11, .inl (dA 11, 10, .inl (σ 11))), (q 12, .inl (dA 12, 60, .inl (σ 12))), (q 13, .inl (dA 13, 130, .inl (σ 13))), (q 14, .inl (dA 14, 130, .inl (σ 14)))]
def tX0 (dA : Nat → ClassId) : List (ClassId × FieldType) := [(dA 0, .int), (dA 1, .int), (dA 2, .int), (dA 3, .int), (dA 4, .boolean), (dA 5, .boolean), (dA 6, .int), (dA 7, .int), (dA 8, .int), (dA 9, .int), (dA 10, .int), (dA 11, .int), (dA 12, .int), (dA 13, .int), (dA 14, .int)]
theorem wX0_g (dA : Nat → ClassId) (o : Nat) (q : Nat → Nat) : gW (wX0 dA o q) := fun _ _ => rfl
section ROWS
variable {p : Program} {l : Launch} {e : Env} {R : Room} {s : State} {m : MethodId} {args : Array Value} {below : List Frame} {meth : Method} {c : Code} {H : Heap} {locs : List Loc} {cells slots : Nat} {Q : State → Prop}
variable {cc : ByteArray} {nL : Nat} {ret : Option FieldType} {D : va_G} {dA : Nat → ClassId} {o : Nat} {q : Nat → Nat} {A : Nat → Prop} {H0 : Heap} {σ : CS} {rest : List Value} {pc : Nat} {ls : Array Slot} {i x : Int32}
theorem x0_g0 (S : gS p s m meth c cc nL args RX0 ret D (tX0 dA)) (Y : gP D (wX0 dA o q) A H0 σ H locs) (hdg : decode cc pc = .ok (.getfield 7, 3)) (kk : W p l e R s m args below meth c H locs cells slots Q (F0 m (pc + 3) ls (.ref (q 0) :: rest))) : W p l e R s m args below meth c H locs cells slots Q (F0 m pc ls (.ref o :: rest)) :=
  va_get (D := D) (ci := 0) (v := .ref (q 0)) (C := RX0) (T := TX0) (N := 18) S.1 S.2.1 S.2.2.2.2.1 in_X0 S.2.2.2.1 S.2.2.2.2.2.1 Y.1 0 rfl rfl 0 (by decide) (S.2.2.2.2.1 _ q39) (fun _ h9 => h9) rfl hdg kk
theorem x0_l0 (S : gS p s m meth c cc nL args RX0 ret D (tX0 dA)) (Y : gP D (wX0 dA o q) A H0 σ H locs) (hin : vp_in i 60) (hdg : decode cc pc = .ok (.iaload, 1)) (kk : W p l e R s m args below meth c H locs cells slots Q (F0 m (pc + 1) ls (.int (σ 0 i.toNatClampNeg) :: rest))) : W p l e R s m args below meth c H locs cells slots Q (F0 m pc ls (.int i :: .ref (q 0) :: rest)) :=
  va_iald S.1 S.2.1 S.2.2.2.2.2.1 Y.1 1 0 rfl rfl hin hdg kk
theorem x0_s0 (S : gS p s m meth c cc nL args RX0 ret D (tX0 dA)) (Y : gP D (wX0 dA o q) A H0 σ H locs) (hin : vp_in i 60) (hdg : decode cc pc = .ok (.iastore, 1)) (kk : ∀ (σ1 : CS) (H1 : Heap) (locs1 : List Loc), σ1 = va_up σ 0 (upd (σ 0) i.toNatClampNeg x) → gP D (wX0 dA o q) A H0 σ1 H1 locs1 → W p l e R s m args below meth c H1 locs1 cells slots Q (F0 m (pc + 1) ls rest)) : W p l e R s m args below meth c H locs cells slots Q (F0 m pc ls (.int x :: .int i :: .ref (q 0) :: rest)) :=
  va_iast S.1 S.2.1 S.2.2.2.2.2.1 Y.1 Y.2.1 Y.2.2 1 0 rfl rfl hin hdg (fun H1 locs1 hP hD hS => kk (va_up σ 0 (upd (σ 0) i.toNatClampNeg x)) H1 locs1 rfl ⟨hP, hD, hS⟩)
theorem x0_g1 (S : gS p s m meth c cc nL args RX0 ret D (tX0 dA)) (Y : gP D (wX0 dA o q) A H0 σ H locs) (hdg : decode cc pc = .ok (.getfield 13, 3)) (kk : W p l e R s m args below meth c H locs cells slots Q (F0 m (pc + 3) ls (.ref (q 1) :: rest))) : W p l e R s m args below meth c H locs cells slots Q (F0 m pc ls (.ref o :: rest)) :=
  va_get (D := D) (ci := 0) (v := .ref (q 1)) (C := RX0) (T := TX0) (N := 18) S.1 S.2.1 S.2.2.2.2.1 in_X0 S.2.2.2.1 S.2.2.2.2.2.1 Y.1 0 rfl rfl 1 (by decide) (S.2.2.2.2.1 _ q40) (fun _ h9 => h9) rfl hdg kk
theorem x0_l1 (S : gS p s m meth c cc nL args RX0 ret D (tX0 dA)) (Y : gP D (wX0 dA o q) A H0 σ H locs) (hin : vp_in i 60) (hdg : decode cc pc = .ok (.iaload, 1)) (kk : W p l e R s m args below meth c H locs cells slots Q (F0 m (pc + 1) ls (.int (σ 1 i.toNatClampNeg) :: rest))) : W p l e R s m args below meth c H locs cells slots Q (F0 m pc ls (.int i :: .ref (q 1) :: rest)) :=
  va_iald S.1 S.2.1 S.2.2.2.2.2.1 Y.1 2 1 rfl rfl hin hdg kk
theorem x0_s1 (S : gS p s m meth c cc nL args RX0 ret D (tX0 dA)) (Y : gP D (wX0 dA o q) A H0 σ H locs) (hin : vp_in i 60) (hdg : decode cc pc = .ok (.iastore, 1)) (kk : ∀ (σ1 : CS) (H1 : Heap) (locs1 : List Loc), σ1 = va_up σ 1 (upd (σ 1) i.toNatClampNeg x) → gP D (wX0 dA o q) A H0 σ1 H1 locs1 → W p l e R s m args below meth c H1 locs1 cells slots Q (F0 m (pc + 1) ls rest)) : W p l e R s m args below meth c H locs cells slots Q (F0 m pc ls (.int x :: .int i :: .ref (q 1) :: rest)) :=
  va_iast S.1 S.2.1 S.2.2.2.2.2.1 Y.1 Y.2.1 Y.2.2 2 1 rfl rfl hin hdg (fun H1 locs1 hP hD hS => kk (va_up σ 1 (upd (σ 1) i.toNatClampNeg x)) H1 locs1 rfl ⟨hP, hD, hS⟩)
theorem x0_g2 (S : gS p s m meth c cc nL args RX0 ret D (tX0 dA)) (Y : gP D (wX0 dA o q) A H0 σ H locs) (hdg : decode cc pc = .ok (.getfield 16, 3)) (kk : W p l e R s m args below meth c H locs cells slots Q (F0 m (pc + 3) ls (.ref (q 2) :: rest))) : W p l e R s m args below meth c H locs cells slots Q (F0 m pc ls (.ref o :: rest)) :=
  va_get (D := D) (ci := 0) (v := .ref (q 2)) (C := RX0) (T := TX0) (N := 18) S.1 S.2.1 S.2.2.2.2.1 in_X0 S.2.2.2.1 S.2.2.2.2.2.1 Y.1 0 rfl rfl 2 (by decide) (S.2.2.2.2.1 _ q41) (fun _ h9 => h9) rfl hdg kk
theorem x0_l2 (S : gS p s m meth c cc nL args RX0 ret D (tX0 dA)) (Y : gP D (wX0 dA o q) A H0 σ H locs) (hin : vp_in i 60) (hdg : decode cc pc = .ok (.iaload, 1)) (kk : W p l e R s m args below meth c H locs cells slots Q (F0 m (pc + 1) ls (.int (σ 2 i.toNatClampNeg) :: rest))) : W p l e R s m args below meth c H locs cells slots Q (F0 m pc ls (.int i :: .ref (q 2) :: rest)) :=
  va_iald S.1 S.2.1 S.2.2.2.2.2.1 Y.1 3 2 rfl rfl hin hdg kk
theorem x0_s2 (S : gS p s m meth c cc nL args RX0 ret D (tX0 dA)) (Y : gP D (wX0 dA o q) A H0 σ H locs) (hin : vp_in i 60) (hdg : decode cc pc = .ok (.iastore, 1)) (kk : ∀ (σ1 : CS) (H1 : Heap) (locs1 : List Loc), σ1 = va_up σ 2 (upd (σ 2) i.toNatClampNeg x) → gP D (wX0 dA o q) A H0 σ1 H1 locs1 → W p l e R s m args below meth c H1 locs1 cells slots Q (F0 m (pc + 1) ls rest)) : W p l e R s m args below meth c H locs cells slots Q (F0 m pc ls (.int x :: .int i :: .ref (q 2) :: rest)) :=
  va_iast S.1 S.2.1 S.2.2.2.2.2.1 Y.1 Y.2.1 Y.2.2 3 2 rfl rfl hin hdg (fun H1 locs1 hP hD hS => kk (va_up σ 2 (upd (σ 2) i.toNatClampNeg x)) H1 locs1 rfl ⟨hP, hD, hS⟩)
theorem x0_g3 (S : gS p s m meth c cc nL args RX0 ret D (tX0 dA)) (Y : gP D (wX0 dA o q) A H0 σ H locs) (hdg : decode cc pc = .ok (.getfield 19, 3)) (kk : W p l e R s m args below meth c H locs cells slots Q (F0 m (pc + 3) ls (.ref (q 3) :: rest))) : W p l e R s m args below meth c H locs cells slots Q (F0 m pc ls (.ref o :: rest)) :=
  va_get (D := D) (ci := 0) (v := .ref (q 3)) (C := RX0) (T := TX0) (N := 18) S.1 S.2.1 S.2.2.2.2.1 in_X0 S.2.2.2.1 S.2.2.2.2.2.1 Y.1 0 rfl rfl 3 (by decide) (S.2.2.2.2.1 _ q42) (fun _ h9 => h9) rfl hdg kk
theorem x0_l3 (S : gS p s m meth c cc nL args RX0 ret D (tX0 dA)) (Y : gP D (wX0 dA o q) A H0 σ H locs) (hin : vp_in i 60) (hdg : decode cc pc = .ok (.iaload, 1)) (kk : W p l e R s m args below meth c H locs cells slots Q (F0 m (pc + 1) ls (.int (σ 3 i.toNatClampNeg) :: rest))) : W p l e R s m args below meth c H locs cells slots Q (F0 m pc ls (.int i :: .ref (q 3) :: rest)) :=
  va_iald S.1 S.2.1 S.2.2.2.2.2.1 Y.1 4 3 rfl rfl hin hdg kk
theorem x0_s3 (S : gS p s m meth c cc nL args RX0 ret D (tX0 dA)) (Y : gP D (wX0 dA o q) A H0 σ H locs) (hin : vp_in i 60) (hdg : decode cc pc = .ok (.iastore, 1)) (kk : ∀ (σ1 : CS) (H1 : Heap) (locs1 : List Loc), σ1 = va_up σ 3 (upd (σ 3) i.toNatClampNeg x) → gP D (wX0 dA o q) A H0 σ1 H1 locs1 → W p l e R s m args below meth c H1 locs1 cells slots Q (F0 m (pc + 1) ls rest)) : W p l e R s m args below meth c H locs cells slots Q (F0 m pc ls (.int x :: .int i :: .ref (q 3) :: rest)) :=
  va_iast S.1 S.2.1 S.2.2.2.2.2.1 Y.1 Y.2.1 Y.2.2 4 3 rfl rfl hin hdg (fun H1 locs1 hP hD hS => kk (va_up σ 3 (upd (σ 3) i.toNatClampNeg x)) H1 locs1 rfl ⟨hP, hD, hS⟩)
theorem x0_g4 (S : gS p s m meth c cc nL args RX0 ret D (tX0 dA)) (Y : gP D (wX0 dA o q) A H0 σ H locs) (hdg : decode cc pc = .ok (.getfield 22, 3)) (kk : W p l e R s m args below meth c H locs cells slots Q (F0 m (pc + 3) ls (.ref (q 4) :: rest))) : W p l e R s m args below meth c H locs cells slots Q (F0 m pc ls (.ref o :: rest)) :=
  va_get (D := D) (ci := 0) (v := .ref (q 4)) (C := RX0) (T := TX0) (N := 18) S.1 S.2.1 S.2.2.2.2.1 in_X0 S.2.2.2.1 S.2.2.2.2.2.1 Y.1 0 rfl rfl 4 (by decide) (S.2.2.2.2.1 _ q43) (fun _ h9 => h9) rfl hdg kk
theorem x0_l4 (S : gS p s m meth c cc nL args RX0 ret D (tX0 dA)) (Y : gP D (wX0 dA o q) A H0 σ H locs) (hin : vp_in i 60) (hdg : decode cc pc = .ok (.baload, 1)) (kk : W p l e R s m args below meth c H locs cells slots Q (F0 m (pc + 1) ls (.int (σ 4 i.toNatClampNeg) :: rest))) : W p l e R s m args below meth c H locs cells slots Q (F0 m pc ls (.int i :: .ref (q 4) :: rest)) :=
  va_zald S.1 S.2.1 S.2.2.2.2.2.1 Y.1 5 4 rfl rfl hin hdg kk
theorem x0_s4 (S : gS p s m meth c cc nL args RX0 ret D (tX0 dA)) (Y : gP D (wX0 dA o q) A H0 σ H locs) (hin : vp_in i 60) (hdg : decode cc pc = .ok (.bastore, 1)) (kk : ∀ (σ1 : CS) (H1 : Heap) (locs1 : List Loc), σ1 = va_up σ 4 (upd (σ 4) i.toNatClampNeg (vp_nar .boolean x)) → gP D (wX0 dA o q) A H0 σ1 H1 locs1 → W p l e R s m args below meth c H1 locs1 cells slots Q (F0 m (pc + 1) ls rest)) : W p l e R s m args below meth c H locs cells slots Q (F0 m pc ls (.int x :: .int i :: .ref (q 4) :: rest)) :=
  va_zast S.1 S.2.1 S.2.2.2.2.2.1 Y.1 Y.2.1 Y.2.2 5 4 rfl rfl hin hdg (fun H1 locs1 hP hD hS => kk (va_up σ 4 (upd (σ 4) i.toNatClampNeg (vp_nar .boolean x))) H1 locs1 rfl ⟨hP, hD, hS⟩)
theorem x0_g5 (S : gS p s m meth c cc nL args RX0 ret D (tX0 dA)) (Y : gP D (wX0 dA o q) A H0 σ H locs) (hdg : decode cc pc = .ok (.getfield 26, 3)) (kk : W p l e R s m args below meth c H locs cells slots Q (F0 m (pc + 3) ls (.ref (q 5) :: rest))) : W p l e R s m args below meth c H locs cells slots Q (F0 m pc ls (.ref o :: rest)) :=
  va_get (D := D) (ci := 0) (v := .ref (q 5)) (C := RX0) (T := TX0) (N := 18) S.1 S.2.1 S.2.2.2.2.1 in_X0 S.2.2.2.1 S.2.2.2.2.2.1 Y.1 0 rfl rfl 5 (by decide) (S.2.2.2.2.1 _ q44) (fun _ h9 => h9) rfl hdg kk
theorem x0_l5 (S : gS p s m meth c cc nL args RX0 ret D (tX0 dA)) (Y : gP D (wX0 dA o q) A H0 σ H locs) (hin : vp_in i 60) (hdg : decode cc pc = .ok (.baload, 1)) (kk : W p l e R s m args below meth c H locs cells slots Q (F0 m (pc + 1) ls (.int (σ 5 i.toNatClampNeg) :: rest))) : W p l e R s m args below meth c H locs cells slots Q (F0 m pc ls (.int i :: .ref (q 5) :: rest)) :=
  va_zald S.1 S.2.1 S.2.2.2.2.2.1 Y.1 6 5 rfl rfl hin hdg kk
theorem x0_s5 (S : gS p s m meth c cc nL args RX0 ret D (tX0 dA)) (Y : gP D (wX0 dA o q) A H0 σ H locs) (hin : vp_in i 60) (hdg : decode cc pc = .ok (.bastore, 1)) (kk : ∀ (σ1 : CS) (H1 : Heap) (locs1 : List Loc), σ1 = va_up σ 5 (upd (σ 5) i.toNatClampNeg (vp_nar .boolean x)) → gP D (wX0 dA o q) A H0 σ1 H1 locs1 → W p l e R s m args below meth c H1 locs1 cells slots Q (F0 m (pc + 1) ls rest)) : W p l e R s m args below meth c H locs cells slots Q (F0 m pc ls (.int x :: .int i :: .ref (q 5) :: rest)) :=
  va_zast S.1 S.2.1 S.2.2.2.2.2.1 Y.1 Y.2.1 Y.2.2 6 5 rfl rfl hin hdg (fun H1 locs1 hP hD hS => kk (va_up σ 5 (upd (σ 5) i.toNatClampNeg (vp_nar .boolean x))) H1 locs1 rfl ⟨hP, hD, hS⟩)
theorem x0_g6 (S : gS p s m meth c cc nL args RX0 ret D (tX0 dA)) (Y : gP D (wX0 dA o q) A H0 σ H locs) (hdg : decode cc pc = .ok (.getfield 29, 3)) (kk : W p l e R s m args below meth c H locs cells slots Q (F0 m (pc + 3) ls (.ref (q 6) :: rest))) : W p l e R s m args below meth c H locs cells slots Q (F0 m pc ls (.ref o :: rest)) :=
  va_get (D := D) (ci := 0) (v := .ref (q 6)) (C := RX0) (T := TX0) (N := 18) S.1 S.2.1 S.2.2.2.2.1 in_X0 S.2.2.2.1 S.2.2.2.2.2.1 Y.1 0 rfl rfl 6 (by decide) (S.2.2.2.2.1 _ q45) (fun _ h9 => h9) rfl hdg kk
theorem x0_l6 (S : gS p s m meth c cc nL args RX0 ret D (tX0 dA)) (Y : gP D (wX0 dA o q) A H0 σ H locs) (hin : vp_in i 10) (hdg : decode cc pc = .ok (.iaload, 1)) (kk : W p l e R s m args below meth c H locs cells slots Q (F0 m (pc + 1) ls (.int (σ 6 i.toNatClampNeg) :: rest))) : W p l e R s m args below meth c H locs cells slots Q (F0 m pc ls (.int i :: .ref (q 6) :: rest)) :=
  va_iald S.1 S.2.1 S.2.2.2.2.2.1 Y.1 7 6 rfl rfl hin hdg kk
theorem x0_s6 (S : gS p s m meth c cc nL args RX0 ret D (tX0 dA)) (Y : gP D (wX0 dA o q) A H0 σ H locs) (hin : vp_in i 10) (hdg : decode cc pc = .ok (.iastore, 1)) (kk : ∀ (σ1 : CS) (H1 : Heap) (locs1 : List Loc), σ1 = va_up σ 6 (upd (σ 6) i.toNatClampNeg x) → gP D (wX0 dA o q) A H0 σ1 H1 locs1 → W p l e R s m args below meth c H1 locs1 cells slots Q (F0 m (pc + 1) ls rest)) : W p l e R s m args below meth c H locs cells slots Q (F0 m pc ls (.int x :: .int i :: .ref (q 6) :: rest)) :=
  va_iast S.1 S.2.1 S.2.2.2.2.2.1 Y.1 Y.2.1 Y.2.2 7 6 rfl rfl hin hdg (fun H1 locs1 hP hD hS => kk (va_up σ 6 (upd (σ 6) i.toNatClampNeg x)) H1 locs1 rfl ⟨hP, hD, hS⟩)
theorem x0_g7 (S : gS p s m meth c cc nL args RX0 ret D (tX0 dA)) (Y : gP D (wX0 dA o q) A H0 σ H locs) (hdg : decode cc pc = .ok (.getfield 32, 3)) (kk : W p l e R s m args below meth c H locs cells slots Q (F0 m (pc + 3) ls (.ref (q 7) :: rest))) : W p l e R s m args below meth c H locs cells slots Q (F0 m pc ls (.ref o :: rest)) :=
  va_get (D := D) (ci := 0) (v := .ref (q 7)) (C := RX0) (T := TX0) (N := 18) S.1 S.2.1 S.2.2.2.2.1 in_X0 S.2.2.2.1 S.2.2.2.2.2.1 Y.1 0 rfl rfl 7 (by decide) (S.2.2.2.2.1 _ q46) (fun _ h9 => h9) rfl hdg kk
theorem x0_l7 (S : gS p s m meth c cc nL args RX0 ret D (tX0 dA)) (Y : gP D (wX0 dA o q) A H0 σ H locs) (hin : vp_in i 10) (hdg : decode cc pc = .ok (.iaload, 1)) (kk : W p l e R s m args below meth c H locs cells slots Q (F0 m (pc + 1) ls (.int (σ 7 i.toNatClampNeg) :: rest))) : W p l e R s m args below meth c H locs cells slots Q (F0 m pc ls (.int i :: .ref (q 7) :: rest)) :=
  va_iald S.1 S.2.1 S.2.2.2.2.2.1 Y.1 8 7 rfl rfl hin hdg kk
theorem x0_s7 (S : gS p s m meth c cc nL args RX0 ret D (tX0 dA)) (Y : gP D (wX0 dA o q) A H0 σ H locs) (hin : vp_in i 10) (hdg : decode cc pc = .ok (.iastore, 1)) (kk : ∀ (σ1 : CS) (H1 : Heap) (locs1 : List Loc), σ1 = va_up σ 7 (upd (σ 7) i.toNatClampNeg x) → gP D (wX0 dA o q) A H0 σ1 H1 locs1 → W p l e R s m args below meth c H1 locs1 cells slots Q (F0 m (pc + 1) ls rest)) : W p l e R s m args below meth c H locs cells slots Q (F0 m pc ls (.int x :: .int i :: .ref (q 7) :: rest)) :=
  va_iast S.1 S.2.1 S.2.2.2.2.2.1 Y.1 Y.2.1 Y.2.2 8 7 rfl rfl hin hdg (fun H1 locs1 hP hD hS => kk (va_up σ 7 (upd (σ 7) i.toNatClampNeg x)) H1 locs1 rfl ⟨hP, hD, hS⟩)
theorem x0_g8 (S : gS p s m meth c cc nL args RX0 ret D (tX0 dA)) (Y : gP D (wX0 dA o q) A H0 σ H locs) (hdg : decode cc pc = .ok (.getfield 35, 3)) (kk : W p l e R s m args below meth c H locs cells slots Q (F0 m (pc + 3) ls (.ref (q 8) :: rest))) : W p l e R s m args below meth c H locs cells slots Q (F0 m pc ls (.ref o :: rest)) :=
  va_get (D := D) (ci := 0) (v := .ref (q 8)) (C := RX0) (T := TX0) (N := 18) S.1 S.2.1 S.2.2.2.2.1 in_X0 S.2.2.2.1 S.2.2.2.2.2.1 Y.1 0 rfl rfl 8 (by decide) (S.2.2.2.2.1 _ q47) (fun _ h9 => h9) rfl hdg kk
theorem x0_l8 (S : gS p s m meth c cc nL args RX0 ret D (tX0 dA)) (Y : gP D (wX0 dA o q) A H0 σ H locs) (hin : vp_in i 60) (hdg : decode cc pc = .ok (.iaload, 1)) (kk : W p l e R s m args below meth c H locs cells slots Q (F0 m (pc + 1) ls (.int (σ 8 i.toNatClampNeg) :: rest))) : W p l e R s m args below meth c H locs cells slots Q (F0 m pc ls (.int i :: .ref (q 8) :: rest)) :=
  va_iald S.1 S.2.1 S.2.2.2.2.2.1 Y.1 9 8 rfl rfl hin hdg kk
theorem x0_s8 (S : gS p s m meth c cc nL args RX0 ret D (tX0 dA)) (Y : gP D (wX0 dA o q) A H0 σ H locs) (hin : vp_in i 60) (hdg : decode cc pc = .ok (.iastore, 1)) (kk : ∀ (σ1 : CS) (H1 : Heap) (locs1 : List Loc), σ1 = va_up σ 8 (upd (σ 8) i.toNatClampNeg x) → gP D (wX0 dA o q) A H0 σ1 H1 locs1 → W p l e R s m args below meth c H1 locs1 cells slots Q (F0 m (pc + 1) ls rest)) : W p l e R s m args below meth c H locs cells slots Q (F0 m pc ls (.int x :: .int i :: .ref (q 8) :: rest)) :=
  va_iast S.1 S.2.1 S.2.2.2.2.2.1 Y.1 Y.2.1 Y.2.2 9 8 rfl rfl hin hdg (fun H1 locs1 hP hD hS => kk (va_up σ 8 (upd (σ 8) i.toNatClampNeg x)) H1 locs1 rfl ⟨hP, hD, hS⟩)
theorem x0_g9 (S : gS p s m meth c cc nL args RX0 ret D (tX0 dA)) (Y : gP D (wX0 dA o q) A H0 σ H locs) (hdg : decode cc pc = .ok (.getfield 38, 3)) (kk : W p l e R s m args below meth c H locs cells slots Q (F0 m (pc + 3) ls (.ref (q 9) :: rest))) : W p l e R s m args below meth c H locs cells slots Q (F0 m pc ls (.ref o :: rest)) :=
  va_get (D := D) (ci := 0) (v := .ref (q 9)) (C := RX0) (T := TX0) (N := 18) S.1 S.2.1 S.2.2.2.2.1 in_X0 S.2.2.2.1 S.2.2.2.2.2.1 Y.1 0 rfl rfl 9 (by decide) (S.2.2.2.2.1 _ q48) (fun _ h9 => h9) rfl hdg kk
theorem x0_l9 (S : gS p s m meth c cc nL args RX0 ret D (tX0 dA)) (Y : gP D (wX0 dA o q) A H0 σ H locs) (hin : vp_in i 1100) (hdg : decode cc pc = .ok (.iaload, 1)) (kk : W p l e R s m args below meth c H locs cells slots Q (F0 m (pc + 1) ls (.int (σ 9 i.toNatClampNeg) :: rest))) : W p l e R s m args below meth c H locs cells slots Q (F0 m pc ls (.int i :: .ref (q 9) :: rest)) :=
  va_iald S.1 S.2.1 S.2.2.2.2.2.1 Y.1 10 9 rfl rfl hin hdg kk
theorem x0_s9 (S : gS p s m meth c cc nL args RX0 ret D (tX0 dA)) (Y : gP D (wX0 dA o q) A H0 σ H locs) (hin : vp_in i 1100) (hdg : decode cc pc = .ok (.iastore, 1)) (kk : ∀ (σ1 : CS) (H1 : Heap) (locs1 : List Loc), σ1 = va_up σ 9 (upd (σ 9) i.toNatClampNeg x) → gP D (wX0 dA o q) A H0 σ1 H1 locs1 → W p l e R s m args below meth c H1 locs1 cells slots Q (F0 m (pc + 1) ls rest)) : W p l e R s m args below meth c H locs cells slots Q (F0 m pc ls (.int x :: .int i :: .ref (q 9) :: rest)) :=
  va_iast S.1 S.2.1 S.2.2.2.2.2.1 Y.1 Y.2.1 Y.2.2 10 9 rfl rfl hin hdg (fun H1 locs1 hP hD hS => kk (va_up σ 9 (upd (σ 9) i.toNatClampNeg x)) H1 locs1 rfl ⟨hP, hD, hS⟩)
theorem x0_g10 (S : gS p s m meth c cc nL args RX0 ret D (tX0 dA)) (Y : gP D (wX0 dA o q) A H0 σ H locs) (hdg : decode cc pc = .ok (.getfield 41, 3)) (kk : W p l e R s m args below meth c H locs cells slots Q (F0 m (pc + 3) ls (.ref (q 10) :: rest))) : W p l e R s m args below meth c H locs cells slots Q (F0 m pc ls (.ref o :: rest)) :=
  va_get (D := D) (ci := 0) (v := .ref (q 10)) (C := RX0) (T := TX0) (N := 18) S.1 S.2.1 S.2.2.2.2.1 in_X0 S.2.2.2.1 S.2.2.2.2.2.1 Y.1 0 rfl rfl 10 (by decide) (S.2.2.2.2.1 _ q49) (fun _ h9 => h9) rfl hdg kk
theorem x0_l10 (S : gS p s m meth c cc nL args RX0 ret D (tX0 dA)) (Y : gP D (wX0 dA o q) A H0 σ H locs) (hin : vp_in i 1100) (hdg : decode cc pc = .ok (.iaload, 1)) (kk : W p l e R s m args below meth c H locs cells slots Q (F0 m (pc + 1) ls (.int (σ 10 i.toNatClampNeg) :: rest))) : W p l e R s m args below meth c H locs cells slots Q (F0 m pc ls (.int i :: .ref (q 10) :: rest)) :=
  va_iald S.1 S.2.1 S.2.2.2.2.2.1 Y.1 11 10 rfl rfl hin hdg kk
theorem x0_s10 (S : gS p s m meth c cc nL args RX0 ret D (tX0 dA)) (Y : gP D (wX0 dA o q) A H0 σ H locs) (hin : vp_in i 1100) (hdg : decode cc pc = .ok (.iastore, 1)) (kk : ∀ (σ1 : CS) (H1 : Heap) (locs1 : List Loc), σ1 = va_up σ 10 (upd (σ 10) i.toNatClampNeg x) → gP D (wX0 dA o q) A H0 σ1 H1 locs1 → W p l e R s m args below meth c H1 locs1 cells slots Q (F0 m (pc + 1) ls rest)) : W p l e R s m args below meth c H locs cells slots Q (F0 m pc ls (.int x :: .int i :: .ref (q 10) :: rest)) :=
  va_iast S.1 S.2.1 S.2.2.2.2.2.1 Y.1 Y.2.1 Y.2.2 11 10 rfl rfl hin hdg (fun H1 locs1 hP hD hS => kk (va_up σ 10 (upd (σ 10) i.toNatClampNeg x)) H1 locs1 rfl ⟨hP, hD, hS⟩)
theorem x0_g11 (S : gS p s m meth c cc nL args RX0 ret D (tX0 dA)) (Y : gP D (wX0 dA o q) A H0 σ H locs) (hdg : decode cc pc = .ok (.getfield 44, 3)) (kk : W p l e R s m args below meth c H locs cells slots Q (F0 m (pc + 3) ls (.ref (q 11) :: rest))) : W p l e R s m args below meth c H locs cells slots Q (F0 m pc ls (.ref o :: rest)) :=
  va_get (D := D) (ci := 0) (v := .ref (q 11)) (C := RX0) (T := TX0) (N := 18) S.1 S.2.1 S.2.2.2.2.1 in_X0 S.2.2.2.1 S.2.2.2.2.2.1 Y.1 0 rfl rfl 11 (by decide) (S.2.2.2.2.1 _ q50) (fun _ h9 => h9) rfl hdg kk
theorem x0_l11 (S : gS p s m meth c cc nL args RX0 ret D (tX0 dA)) (Y : gP D (wX0 dA o q) A H0 σ H locs) (hin : vp_in i 10) (hdg : decode cc pc = .ok (.iaload, 1)) (kk : W p l e R s m args below meth c H locs cells slots Q (F0 m (pc + 1) ls (.int (σ 11 i.toNatClampNeg) :: rest))) : W p l e R s m args below meth c H locs cells slots Q (F0 m pc ls (.int i :: .ref (q 11) :: rest)) :=
  va_iald S.1 S.2.1 S.2.2.2.2.2.1 Y.1 12 11 rfl rfl hin hdg kk
theorem x0_s11 (S : gS p s m meth c cc nL args RX0 ret D (tX0 dA)) (Y : gP D (wX0 dA o q) A H0 σ H locs) (hin : vp_in i 10) (hdg : decode cc pc = .ok (.iastore, 1)) (kk : ∀ (σ1 : CS) (H1 : Heap) (locs1 : List Loc), σ1 = va_up σ 11 (upd (σ 11) i.toNatClampNeg x) → gP D (wX0 dA o q) A H0 σ1 H1 locs1 → W p l e R s m args below meth c H1 locs1 cells slots Q (F0 m (pc + 1) ls rest)) : W p l e R s m args below meth c H locs cells slots Q (F0 m pc ls (.int x :: .int i :: .ref (q 11) :: rest)) :=
  va_iast S.1 S.2.1 S.2.2.2.2.2.1 Y.1 Y.2.1 Y.2.2 12 11 rfl rfl hin hdg (fun H1 locs1 hP hD hS => kk (va_up σ 11 (upd (σ 11) i.toNatClampNeg x)) H1 locs1 rfl ⟨hP, hD, hS⟩)
theorem x0_g12 (S : gS p s m meth c cc nL args RX0 ret D (tX0 dA)) (Y : gP D (wX0 dA o q) A H0 σ H locs) (hdg : decode cc pc = .ok (.getfield 47, 3)) (kk : W p l e R s m args below meth c H locs cells slots Q (F0 m (pc + 3) ls (.ref (q 12) :: rest))) : W p l e R s m args below meth c H locs cells slots Q (F0 m pc ls (.ref o :: rest)) :=
  va_get (D := D) (ci := 0) (v := .ref (q 12)) (C := RX0) (T := TX0) (N := 18) S.1 S.2.1 S.2.2.2.2.1 in_X0 S.2.2.2.1 S.2.2.2.2.2.1 Y.1 0 rfl rfl 12 (by decide) (S.2.2.2.2.1 _ q51) (fun _ h9 => h9) rfl hdg kk
theorem x0_l12 (S : gS p s m meth c cc nL args RX0 ret D (tX0 dA)) (Y : gP D (wX0 dA o q) A H0 σ H locs) (hin : vp_in i 60) (hdg : decode cc pc = .ok (.iaload, 1)) (kk : W p l e R s m args below meth c H locs cells slots Q (F0 m (pc + 1) ls (.int (σ 12 i.toNatClampNeg) :: rest))) : W p l e R s m args below meth c H locs cells slots Q (F0 m pc ls (.int i :: .ref (q 12) :: rest)) :=
  va_iald S.1 S.2.1 S.2.2.2.2.2.1 Y.1 13 12 rfl rfl hin hdg kk
theorem x0_s12 (S : gS p s m meth c cc nL args RX0 ret D (tX0 dA)) (Y : gP D (wX0 dA o q) A H0 σ H locs) (hin : vp_in i 60) (hdg : decode cc pc = .ok (.iastore, 1)) (kk : ∀ (σ1 : CS) (H1 : Heap) (locs1 : List Loc), σ1 = va_up σ 12 (upd (σ 12) i.toNatClampNeg x) → gP D (wX0 dA o q) A H0 σ1 H1 locs1 → W p l e R s m args below meth c H1 locs1 cells slots Q (F0 m (pc + 1) ls rest)) : W p l e R s m args below meth c H locs cells slots Q (F0 m pc ls (.int x :: .int i :: .ref (q 12) :: rest)) :=
  va_iast S.1 S.2.1 S.2.2.2.2.2.1 Y.1 Y.2.1 Y.2.2 13 12 rfl rfl hin hdg (fun H1 locs1 hP hD hS => kk (va_up σ 12 (upd (σ 12) i.toNatClampNeg x)) H1 locs1 rfl ⟨hP, hD, hS⟩)
theorem x0_g13 (S : gS p s m meth c cc nL args RX0 ret D (tX0 dA)) (Y : gP D (wX0 dA o q) A H0 σ H locs) (hdg : decode cc pc = .ok (.getfield 50, 3)) (kk : W p l e R s m args below meth c H locs cells slots Q (F0 m (pc + 3) ls (.ref (q 13) :: rest))) : W p l e R s m args below meth c H locs cells slots Q (F0 m pc ls (.ref o :: rest)) :=
  va_get (D := D) (ci := 0) (v := .ref (q 13)) (C := RX0) (T := TX0) (N := 18) S.1 S.2.1 S.2.2.2.2.1 in_X0 S.2.2.2.1 S.2.2.2.2.2.1 Y.1 0 rfl rfl 13 (by decide) (S.2.2.2.2.1 _ q52) (fun _ h9 => h9) rfl hdg kk
theorem x0_l13 (S : gS p s m meth c cc nL args RX0 ret D (tX0 dA)) (Y : gP D (wX0 dA o q) A H0 σ H locs) (hin : vp_in i 130) (hdg : decode cc pc = .ok (.iaload, 1)) (kk : W p l e R s m args below meth c H locs cells slots Q (F0 m (pc + 1) ls (.int (σ 13 i.toNatClampNeg) :: rest))) : W p l e R s m args below meth c H locs cells slots Q (F0 m pc ls (.int i :: .ref (q 13) :: rest)) :=
  va_iald S.1 S.2.1 S.2.2.2.2.2.1 Y.1 14 13 rfl rfl hin hdg kk
theorem x0_s13 (S : gS p s m meth c cc nL args RX0 ret D (tX0 dA)) (Y : gP D (wX0 dA o q) A H0 σ H locs) (hin : vp_in i 130) (hdg : decode cc pc = .ok (.iastore, 1)) (kk : ∀ (σ1 : CS) (H1 : Heap) (locs1 : List Loc), σ1 = va_up σ 13 (upd (σ 13) i.toNatClampNeg x) → gP D (wX0 dA o q) A H0 σ1 H1 locs1 → W p l e R s m args below meth c H1 locs1 cells slots Q (F0 m (pc + 1) ls rest)) : W p l e R s m args below meth c H locs cells slots Q (F0 m pc ls (.int x :: .int i :: .ref (q 13) :: rest)) :=
  va_iast S.1 S.2.1 S.2.2.2.2.2.1 Y.1 Y.2.1 Y.2.2 14 13 rfl rfl hin hdg (fun H1 locs1 hP hD hS => kk (va_up σ 13 (upd (σ 13) i.toNatClampNeg x)) H1 locs1 rfl ⟨hP, hD, hS⟩)
theorem x0_g14 (S : gS p s m meth c cc nL args RX0 ret D (tX0 dA)) (Y : gP D (wX0 dA o q) A H0 σ H locs) (hdg : decode cc pc = .ok (.getfield 53, 3)) (kk : W p l e R s m args below meth c H locs cells slots Q (F0 m (pc + 3) ls (.ref (q 14) :: rest))) : W p l e R s m args below meth c H locs cells slots Q (F0 m pc ls (.ref o :: rest)) :=
  va_get (D := D) (ci := 0) (v := .ref (q 14)) (C := RX0) (T := TX0) (N := 18) S.1 S.2.1 S.2.2.2.2.1 in_X0 S.2.2.2.1 S.2.2.2.2.2.1 Y.1 0 rfl rfl 14 (by decide) (S.2.2.2.2.1 _ q53) (fun _ h9 => h9) rfl hdg kk
theorem x0_l14 (S : gS p s m meth c cc nL args RX0 ret D (tX0 dA)) (Y : gP D (wX0 dA o q) A H0 σ H locs) (hin : vp_in i 130) (hdg : decode cc pc = .ok (.iaload, 1)) (kk : W p l e R s m args below meth c H locs cells slots Q (F0 m (pc + 1) ls (.int (σ 14 i.toNatClampNeg) :: rest))) : W p l e R s m args below meth c H locs cells slots Q (F0 m pc ls (.int i :: .ref (q 14) :: rest)) :=
  va_iald S.1 S.2.1 S.2.2.2.2.2.1 Y.1 15 14 rfl rfl hin hdg kk
theorem x0_s14 (S : gS p s m meth c cc nL args RX0 ret D (tX0 dA)) (Y : gP D (wX0 dA o q) A H0 σ H locs) (hin : vp_in i 130) (hdg : decode cc pc = .ok (.iastore, 1)) (kk : ∀ (σ1 : CS) (H1 : Heap) (locs1 : List Loc), σ1 = va_up σ 14 (upd (σ 14) i.toNatClampNeg x) → gP D (wX0 dA o q) A H0 σ1 H1 locs1 → W p l e R s m args below meth c H1 locs1 cells slots Q (F0 m (pc + 1) ls rest)) : W p l e R s m args below meth c H locs cells slots Q (F0 m pc ls (.int x :: .int i :: .ref (q 14) :: rest)) :=
  va_iast S.1 S.2.1 S.2.2.2.2.2.1 Y.1 Y.2.1 Y.2.2 15 14 rfl rfl hin hdg (fun H1 locs1 hP hD hS => kk (va_up σ 14 (upd (σ 14) i.toNatClampNeg x)) H1 locs1 rfl ⟨hP, hD, hS⟩)
theorem x0_g15 (S : gS p s m meth c cc nL args RX0 ret D (tX0 dA)) (Y : gP D (wX0 dA o q) A H0 σ H locs) (hdg : decode cc pc = .ok (.getfield 59, 3)) (kk : W p l e R s m args below meth c H locs cells slots Q (F0 m (pc + 3) ls (.int (σ 15 0) :: rest))) : W p l e R s m args below meth c H locs cells slots Q (F0 m pc ls (.ref o :: rest)) :=
  va_get (D := D) (ci := 0) (v := .int (σ 15 0)) (C := RX0) (T := TX0) (N := 18) S.1 S.2.1 S.2.2.2.2.1 in_X0 S.2.2.2.1 S.2.2.2.2.2.1 Y.1 0 rfl rfl 15 (by decide) (S.2.2.2.2.1 _ q54) (fun _ h9 => h9) rfl hdg kk
theorem x0_p15 (S : gS p s m meth c cc nL args RX0 ret D (tX0 dA)) (Y : gP D (wX0 dA o q) A H0 σ H locs) (hdg : decode cc pc = .ok (.putfield 59, 3)) (kk : ∀ (σ1 : CS) (H1 : Heap) (locs1 : List Loc), σ1 = va_up σ 15 (fun _ => x) → gP D (wX0 dA o q) A H0 σ1 H1 locs1 → W p l e R s m args below meth c H1 locs1 cells slots Q (F0 m (pc + 3) ls rest)) : W p l e R s m args below meth c H locs cells slots Q (F0 m pc ls (.int x :: .ref o :: rest)) :=
  va_put (D := D) (ci := 0) (v := .int x) (ty := .int) (C := RX0) (T := TX0) (N := 18) S.1 S.2.1 S.2.2.2.2.1 in_X0 tyX0 tyX0_ok nmX0 S.2.2.2.1 S.2.2.2.2.2.1 Y.1 Y.2.1 Y.2.2 0 rfl rfl 15 (by decide) (S.2.2.2.2.1 _ q54) (fun _ h9 => h9) rfl (by decide +kernel) rfl rfl (Nat.le_of_ble_eq_true rfl) hdg (fun H1 locs1 hP hD hS => kk (va_up σ 15 (fun _ => x)) H1 locs1 rfl ⟨hP, hD, hS⟩)
theorem x0_g16 (S : gS p s m meth c cc nL args RX0 ret D (tX0 dA)) (Y : gP D (wX0 dA o q) A H0 σ H locs) (hdg : decode cc pc = .ok (.getfield 63, 3)) (kk : W p l e R s m args below meth c H locs cells slots Q (F0 m (pc + 3) ls (.int (σ 16 0) :: rest))) : W p l e R s m args below meth c H locs cells slots Q (F0 m pc ls (.ref o :: rest)) :=
  va_get (D := D) (ci := 0) (v := .int (σ 16 0)) (C := RX0) (T := TX0) (N := 18) S.1 S.2.1 S.2.2.2.2.1 in_X0 S.2.2.2.1 S.2.2.2.2.2.1 Y.1 0 rfl rfl 16 (by decide) (S.2.2.2.2.1 _ q55) (fun _ h9 => h9) rfl hdg kk
theorem x0_p16 (S : gS p s m meth c cc nL args RX0 ret D (tX0 dA)) (Y : gP D (wX0 dA o q) A H0 σ H locs) (hdg : decode cc pc = .ok (.putfield 63, 3)) (kk : ∀ (σ1 : CS) (H1 : Heap) (locs1 : List Loc), σ1 = va_up σ 16 (fun _ => x) → gP D (wX0 dA o q) A H0 σ1 H1 locs1 → W p l e R s m args below meth c H1 locs1 cells slots Q (F0 m (pc + 3) ls rest)) : W p l e R s m args below meth c H locs cells slots Q (F0 m pc ls (.int x :: .ref o :: rest)) :=
  va_put (D := D) (ci := 0) (v := .int x) (ty := .int) (C := RX0) (T := TX0) (N := 18) S.1 S.2.1 S.2.2.2.2.1 in_X0 tyX0 tyX0_ok nmX0 S.2.2.2.1 S.2.2.2.2.2.1 Y.1 Y.2.1 Y.2.2 0 rfl rfl 16 (by decide) (S.2.2.2.2.1 _ q55) (fun _ h9 => h9) rfl (by decide +kernel) rfl rfl (Nat.le_of_ble_eq_true rfl) hdg (fun H1 locs1 hP hD hS => kk (va_up σ 16 (fun _ => x)) H1 locs1 rfl ⟨hP, hD, hS⟩)
theorem x0_g17 (S : gS p s m meth c cc nL args RX0 ret D (tX0 dA)) (Y : gP D (wX0 dA o q) A H0 σ H locs) (hdg : decode cc pc = .ok (.getfield 66, 3)) (kk : W p l e R s m args below meth c H locs cells slots Q (F0 m (pc + 3) ls (.int (σ 17 0) :: rest))) : W p l e R s m args below meth c H locs cells slots Q (F0 m pc ls (.ref o :: rest)) :=
  va_get (D := D) (ci := 0) (v := .int (σ 17 0)) (C := RX0) (T := TX0) (N := 18) S.1 S.2.1 S.2.2.2.2.1 in_X0 S.2.2.2.1 S.2.2.2.2.2.1 Y.1 0 rfl rfl 17 (by decide) (S.2.2.2.2.1 _ q56) (fun _ h9 => h9) rfl hdg kk
theorem x0_p17 (S : gS p s m meth c cc nL args RX0 ret D (tX0 dA)) (Y : gP D (wX0 dA o q) A H0 σ H locs) (hdg : decode cc pc = .ok (.putfield 66, 3)) (kk : ∀ (σ1 : CS) (H1 : Heap) (locs1 : List Loc), σ1 = va_up σ 17 (fun _ => x) → gP D (wX0 dA o q) A H0 σ1 H1 locs1 → W p l e R s m args below meth c H1 locs1 cells slots Q (F0 m (pc + 3) ls rest)) : W p l e R s m args below meth c H locs cells slots Q (F0 m pc ls (.int x :: .ref o :: rest)) :=
  va_put (D := D) (ci := 0) (v := .int x) (ty := .int) (C := RX0) (T := TX0) (N := 18) S.1 S.2.1 S.2.2.2.2.1 in_X0 tyX0 tyX0_ok nmX0 S.2.2.2.1 S.2.2.2.2.2.1 Y.1 Y.2.1 Y.2.2 0 rfl rfl 17 (by decide) (S.2.2.2.2.1 _ q56) (fun _ h9 => h9) rfl (by decide +kernel) rfl rfl (Nat.le_of_ble_eq_true rfl) hdg (fun H1 locs1 hP hD hS => kk (va_up σ 17 (fun _ => x)) H1 locs1 rfl ⟨hP, hD, hS⟩)
end ROWS
end
section
/-! LeftistHeapsModel: its world, and a row a field. Fields: 0 key, 1 left, 2 right, 3 rank, 4 state, 5 free, 6 freeMany, 7 top, 8 heaps, 9 pile, 10 spine, 11 row, 12 rowMany -/
def wX1 (dA : Nat → ClassId) (o : Nat) (q : Nat → Nat) (σ : CS) : va_W := [(o, .inr (1, [.ref (q 0), .ref (q 1), .ref (q 2), .ref (q 3), .ref (q 4), .ref (q 5), .int (σ 6 0), .ref (q 7), .int (σ 8 0), .ref (q 9), .ref (q 10), .ref (q 11), .int (σ 12 0)])), (q 0, .inl (dA 0, 60, .inl (σ 0))), (q 1, .inl (dA 1, 60, .inl (σ 1))), (q 2, .inl (dA 2, 60, .inl (σ 2))), (q 3, .inl (dA 3, 60, .inl (σ 3))), (q 4, .inl (dA 4, 60, .inl (σ 4))), (q 5, .inl (dA 5, 60, .inl (σ 5))), (q 7, .inl (dA 7, 10, .inl (σ 7))), (q 9, .inl (dA 9, 64, .inl (σ 9))), (q 10, .inl (dA 10, 64, .inl (σ 10))), (q 11, .inl (dA 11, 64, .inl (σ 11)))]
def tX1 (dA : Nat → ClassId) : List (ClassId × FieldType) := [(dA 0, .int), (dA 1, .int), (dA 2, .int), (dA 3, .int), (dA 4, .int), (dA 5, .int), (dA 7, .int), (dA 9, .int), (dA 10, .int), (dA 11, .int)]
theorem wX1_g (dA : Nat → ClassId) (o : Nat) (q : Nat → Nat) : gW (wX1 dA o q) := fun _ _ => rfl
section ROWS
variable {p : Program} {l : Launch} {e : Env} {R : Room} {s : State} {m : MethodId} {args : Array Value} {below : List Frame} {meth : Method} {c : Code} {H : Heap} {locs : List Loc} {cells slots : Nat} {Q : State → Prop}
variable {cc : ByteArray} {nL : Nat} {ret : Option FieldType} {D : va_G} {dA : Nat → ClassId} {o : Nat} {q : Nat → Nat} {A : Nat → Prop} {H0 : Heap} {σ : CS} {rest : List Value} {pc : Nat} {ls : Array Slot} {i x : Int32}
theorem x1_g0 (S : gS p s m meth c cc nL args RX1 ret D (tX1 dA)) (Y : gP D (wX1 dA o q) A H0 σ H locs) (hdg : decode cc pc = .ok (.getfield 7, 3)) (kk : W p l e R s m args below meth c H locs cells slots Q (F0 m (pc + 3) ls (.ref (q 0) :: rest))) : W p l e R s m args below meth c H locs cells slots Q (F0 m pc ls (.ref o :: rest)) :=
  va_get (D := D) (ci := 1) (v := .ref (q 0)) (C := RX1) (T := TX1) (N := 13) S.1 S.2.1 S.2.2.2.2.1 in_X1 S.2.2.2.1 S.2.2.2.2.2.1 Y.1 0 rfl rfl 0 (by decide) (S.2.2.2.2.1 _ q200) (fun _ h9 => h9) rfl hdg kk
theorem x1_l0 (S : gS p s m meth c cc nL args RX1 ret D (tX1 dA)) (Y : gP D (wX1 dA o q) A H0 σ H locs) (hin : vp_in i 60) (hdg : decode cc pc = .ok (.iaload, 1)) (kk : W p l e R s m args below meth c H locs cells slots Q (F0 m (pc + 1) ls (.int (σ 0 i.toNatClampNeg) :: rest))) : W p l e R s m args below meth c H locs cells slots Q (F0 m pc ls (.int i :: .ref (q 0) :: rest)) :=
  va_iald S.1 S.2.1 S.2.2.2.2.2.1 Y.1 1 0 rfl rfl hin hdg kk
theorem x1_s0 (S : gS p s m meth c cc nL args RX1 ret D (tX1 dA)) (Y : gP D (wX1 dA o q) A H0 σ H locs) (hin : vp_in i 60) (hdg : decode cc pc = .ok (.iastore, 1)) (kk : ∀ (σ1 : CS) (H1 : Heap) (locs1 : List Loc), σ1 = va_up σ 0 (upd (σ 0) i.toNatClampNeg x) → gP D (wX1 dA o q) A H0 σ1 H1 locs1 → W p l e R s m args below meth c H1 locs1 cells slots Q (F0 m (pc + 1) ls rest)) : W p l e R s m args below meth c H locs cells slots Q (F0 m pc ls (.int x :: .int i :: .ref (q 0) :: rest)) :=
  va_iast S.1 S.2.1 S.2.2.2.2.2.1 Y.1 Y.2.1 Y.2.2 1 0 rfl rfl hin hdg (fun H1 locs1 hP hD hS => kk (va_up σ 0 (upd (σ 0) i.toNatClampNeg x)) H1 locs1 rfl ⟨hP, hD, hS⟩)
theorem x1_g1 (S : gS p s m meth c cc nL args RX1 ret D (tX1 dA)) (Y : gP D (wX1 dA o q) A H0 σ H locs) (hdg : decode cc pc = .ok (.getfield 13, 3)) (kk : W p l e R s m args below meth c H locs cells slots Q (F0 m (pc + 3) ls (.ref (q 1) :: rest))) : W p l e R s m args below meth c H locs cells slots Q (F0 m pc ls (.ref o :: rest)) :=
  va_get (D := D) (ci := 1) (v := .ref (q 1)) (C := RX1) (T := TX1) (N := 13) S.1 S.2.1 S.2.2.2.2.1 in_X1 S.2.2.2.1 S.2.2.2.2.2.1 Y.1 0 rfl rfl 1 (by decide) (S.2.2.2.2.1 _ q201) (fun _ h9 => h9) rfl hdg kk
theorem x1_l1 (S : gS p s m meth c cc nL args RX1 ret D (tX1 dA)) (Y : gP D (wX1 dA o q) A H0 σ H locs) (hin : vp_in i 60) (hdg : decode cc pc = .ok (.iaload, 1)) (kk : W p l e R s m args below meth c H locs cells slots Q (F0 m (pc + 1) ls (.int (σ 1 i.toNatClampNeg) :: rest))) : W p l e R s m args below meth c H locs cells slots Q (F0 m pc ls (.int i :: .ref (q 1) :: rest)) :=
  va_iald S.1 S.2.1 S.2.2.2.2.2.1 Y.1 2 1 rfl rfl hin hdg kk
theorem x1_s1 (S : gS p s m meth c cc nL args RX1 ret D (tX1 dA)) (Y : gP D (wX1 dA o q) A H0 σ H locs) (hin : vp_in i 60) (hdg : decode cc pc = .ok (.iastore, 1)) (kk : ∀ (σ1 : CS) (H1 : Heap) (locs1 : List Loc), σ1 = va_up σ 1 (upd (σ 1) i.toNatClampNeg x) → gP D (wX1 dA o q) A H0 σ1 H1 locs1 → W p l e R s m args below meth c H1 locs1 cells slots Q (F0 m (pc + 1) ls rest)) : W p l e R s m args below meth c H locs cells slots Q (F0 m pc ls (.int x :: .int i :: .ref (q 1) :: rest)) :=
  va_iast S.1 S.2.1 S.2.2.2.2.2.1 Y.1 Y.2.1 Y.2.2 2 1 rfl rfl hin hdg (fun H1 locs1 hP hD hS => kk (va_up σ 1 (upd (σ 1) i.toNatClampNeg x)) H1 locs1 rfl ⟨hP, hD, hS⟩)
theorem x1_g2 (S : gS p s m meth c cc nL args RX1 ret D (tX1 dA)) (Y : gP D (wX1 dA o q) A H0 σ H locs) (hdg : decode cc pc = .ok (.getfield 16, 3)) (kk : W p l e R s m args below meth c H locs cells slots Q (F0 m (pc + 3) ls (.ref (q 2) :: rest))) : W p l e R s m args below meth c H locs cells slots Q (F0 m pc ls (.ref o :: rest)) :=
  va_get (D := D) (ci := 1) (v := .ref (q 2)) (C := RX1) (T := TX1) (N := 13) S.1 S.2.1 S.2.2.2.2.1 in_X1 S.2.2.2.1 S.2.2.2.2.2.1 Y.1 0 rfl rfl 2 (by decide) (S.2.2.2.2.1 _ q202) (fun _ h9 => h9) rfl hdg kk
theorem x1_l2 (S : gS p s m meth c cc nL args RX1 ret D (tX1 dA)) (Y : gP D (wX1 dA o q) A H0 σ H locs) (hin : vp_in i 60) (hdg : decode cc pc = .ok (.iaload, 1)) (kk : W p l e R s m args below meth c H locs cells slots Q (F0 m (pc + 1) ls (.int (σ 2 i.toNatClampNeg) :: rest))) : W p l e R s m args below meth c H locs cells slots Q (F0 m pc ls (.int i :: .ref (q 2) :: rest)) :=
  va_iald S.1 S.2.1 S.2.2.2.2.2.1 Y.1 3 2 rfl rfl hin hdg kk
theorem x1_s2 (S : gS p s m meth c cc nL args RX1 ret D (tX1 dA)) (Y : gP D (wX1 dA o q) A H0 σ H locs) (hin : vp_in i 60) (hdg : decode cc pc = .ok (.iastore, 1)) (kk : ∀ (σ1 : CS) (H1 : Heap) (locs1 : List Loc), σ1 = va_up σ 2 (upd (σ 2) i.toNatClampNeg x) → gP D (wX1 dA o q) A H0 σ1 H1 locs1 → W p l e R s m args below meth c H1 locs1 cells slots Q (F0 m (pc + 1) ls rest)) : W p l e R s m args below meth c H locs cells slots Q (F0 m pc ls (.int x :: .int i :: .ref (q 2) :: rest)) :=
  va_iast S.1 S.2.1 S.2.2.2.2.2.1 Y.1 Y.2.1 Y.2.2 3 2 rfl rfl hin hdg (fun H1 locs1 hP hD hS => kk (va_up σ 2 (upd (σ 2) i.toNatClampNeg x)) H1 locs1 rfl ⟨hP, hD, hS⟩)
theorem x1_g3 (S : gS p s m meth c cc nL args RX1 ret D (tX1 dA)) (Y : gP D (wX1 dA o q) A H0 σ H locs) (hdg : decode cc pc = .ok (.getfield 19, 3)) (kk : W p l e R s m args below meth c H locs cells slots Q (F0 m (pc + 3) ls (.ref (q 3) :: rest))) : W p l e R s m args below meth c H locs cells slots Q (F0 m pc ls (.ref o :: rest)) :=
  va_get (D := D) (ci := 1) (v := .ref (q 3)) (C := RX1) (T := TX1) (N := 13) S.1 S.2.1 S.2.2.2.2.1 in_X1 S.2.2.2.1 S.2.2.2.2.2.1 Y.1 0 rfl rfl 3 (by decide) (S.2.2.2.2.1 _ q203) (fun _ h9 => h9) rfl hdg kk
theorem x1_l3 (S : gS p s m meth c cc nL args RX1 ret D (tX1 dA)) (Y : gP D (wX1 dA o q) A H0 σ H locs) (hin : vp_in i 60) (hdg : decode cc pc = .ok (.iaload, 1)) (kk : W p l e R s m args below meth c H locs cells slots Q (F0 m (pc + 1) ls (.int (σ 3 i.toNatClampNeg) :: rest))) : W p l e R s m args below meth c H locs cells slots Q (F0 m pc ls (.int i :: .ref (q 3) :: rest)) :=
  va_iald S.1 S.2.1 S.2.2.2.2.2.1 Y.1 4 3 rfl rfl hin hdg kk
theorem x1_s3 (S : gS p s m meth c cc nL args RX1 ret D (tX1 dA)) (Y : gP D (wX1 dA o q) A H0 σ H locs) (hin : vp_in i 60) (hdg : decode cc pc = .ok (.iastore, 1)) (kk : ∀ (σ1 : CS) (H1 : Heap) (locs1 : List Loc), σ1 = va_up σ 3 (upd (σ 3) i.toNatClampNeg x) → gP D (wX1 dA o q) A H0 σ1 H1 locs1 → W p l e R s m args below meth c H1 locs1 cells slots Q (F0 m (pc + 1) ls rest)) : W p l e R s m args below meth c H locs cells slots Q (F0 m pc ls (.int x :: .int i :: .ref (q 3) :: rest)) :=
  va_iast S.1 S.2.1 S.2.2.2.2.2.1 Y.1 Y.2.1 Y.2.2 4 3 rfl rfl hin hdg (fun H1 locs1 hP hD hS => kk (va_up σ 3 (upd (σ 3) i.toNatClampNeg x)) H1 locs1 rfl ⟨hP, hD, hS⟩)
theorem x1_g4 (S : gS p s m meth c cc nL args RX1 ret D (tX1 dA)) (Y : gP D (wX1 dA o q) A H0 σ H locs) (hdg : decode cc pc = .ok (.getfield 22, 3)) (kk : W p l e R s m args below meth c H locs cells slots Q (F0 m (pc + 3) ls (.ref (q 4) :: rest))) : W p l e R s m args below meth c H locs cells slots Q (F0 m pc ls (.ref o :: rest)) :=
  va_get (D := D) (ci := 1) (v := .ref (q 4)) (C := RX1) (T := TX1) (N := 13) S.1 S.2.1 S.2.2.2.2.1 in_X1 S.2.2.2.1 S.2.2.2.2.2.1 Y.1 0 rfl rfl 4 (by decide) (S.2.2.2.2.1 _ q204) (fun _ h9 => h9) rfl hdg kk
theorem x1_l4 (S : gS p s m meth c cc nL args RX1 ret D (tX1 dA)) (Y : gP D (wX1 dA o q) A H0 σ H locs) (hin : vp_in i 60) (hdg : decode cc pc = .ok (.iaload, 1)) (kk : W p l e R s m args below meth c H locs cells slots Q (F0 m (pc + 1) ls (.int (σ 4 i.toNatClampNeg) :: rest))) : W p l e R s m args below meth c H locs cells slots Q (F0 m pc ls (.int i :: .ref (q 4) :: rest)) :=
  va_iald S.1 S.2.1 S.2.2.2.2.2.1 Y.1 5 4 rfl rfl hin hdg kk
theorem x1_s4 (S : gS p s m meth c cc nL args RX1 ret D (tX1 dA)) (Y : gP D (wX1 dA o q) A H0 σ H locs) (hin : vp_in i 60) (hdg : decode cc pc = .ok (.iastore, 1)) (kk : ∀ (σ1 : CS) (H1 : Heap) (locs1 : List Loc), σ1 = va_up σ 4 (upd (σ 4) i.toNatClampNeg x) → gP D (wX1 dA o q) A H0 σ1 H1 locs1 → W p l e R s m args below meth c H1 locs1 cells slots Q (F0 m (pc + 1) ls rest)) : W p l e R s m args below meth c H locs cells slots Q (F0 m pc ls (.int x :: .int i :: .ref (q 4) :: rest)) :=
  va_iast S.1 S.2.1 S.2.2.2.2.2.1 Y.1 Y.2.1 Y.2.2 5 4 rfl rfl hin hdg (fun H1 locs1 hP hD hS => kk (va_up σ 4 (upd (σ 4) i.toNatClampNeg x)) H1 locs1 rfl ⟨hP, hD, hS⟩)
theorem x1_g5 (S : gS p s m meth c cc nL args RX1 ret D (tX1 dA)) (Y : gP D (wX1 dA o q) A H0 σ H locs) (hdg : decode cc pc = .ok (.getfield 25, 3)) (kk : W p l e R s m args below meth c H locs cells slots Q (F0 m (pc + 3) ls (.ref (q 5) :: rest))) : W p l e R s m args below meth c H locs cells slots Q (F0 m pc ls (.ref o :: rest)) :=
  va_get (D := D) (ci := 1) (v := .ref (q 5)) (C := RX1) (T := TX1) (N := 13) S.1 S.2.1 S.2.2.2.2.1 in_X1 S.2.2.2.1 S.2.2.2.2.2.1 Y.1 0 rfl rfl 5 (by decide) (S.2.2.2.2.1 _ q205) (fun _ h9 => h9) rfl hdg kk
theorem x1_l5 (S : gS p s m meth c cc nL args RX1 ret D (tX1 dA)) (Y : gP D (wX1 dA o q) A H0 σ H locs) (hin : vp_in i 60) (hdg : decode cc pc = .ok (.iaload, 1)) (kk : W p l e R s m args below meth c H locs cells slots Q (F0 m (pc + 1) ls (.int (σ 5 i.toNatClampNeg) :: rest))) : W p l e R s m args below meth c H locs cells slots Q (F0 m pc ls (.int i :: .ref (q 5) :: rest)) :=
  va_iald S.1 S.2.1 S.2.2.2.2.2.1 Y.1 6 5 rfl rfl hin hdg kk
theorem x1_s5 (S : gS p s m meth c cc nL args RX1 ret D (tX1 dA)) (Y : gP D (wX1 dA o q) A H0 σ H locs) (hin : vp_in i 60) (hdg : decode cc pc = .ok (.iastore, 1)) (kk : ∀ (σ1 : CS) (H1 : Heap) (locs1 : List Loc), σ1 = va_up σ 5 (upd (σ 5) i.toNatClampNeg x) → gP D (wX1 dA o q) A H0 σ1 H1 locs1 → W p l e R s m args below meth c H1 locs1 cells slots Q (F0 m (pc + 1) ls rest)) : W p l e R s m args below meth c H locs cells slots Q (F0 m pc ls (.int x :: .int i :: .ref (q 5) :: rest)) :=
  va_iast S.1 S.2.1 S.2.2.2.2.2.1 Y.1 Y.2.1 Y.2.2 6 5 rfl rfl hin hdg (fun H1 locs1 hP hD hS => kk (va_up σ 5 (upd (σ 5) i.toNatClampNeg x)) H1 locs1 rfl ⟨hP, hD, hS⟩)
theorem x1_g6 (S : gS p s m meth c cc nL args RX1 ret D (tX1 dA)) (Y : gP D (wX1 dA o q) A H0 σ H locs) (hdg : decode cc pc = .ok (.getfield 47, 3)) (kk : W p l e R s m args below meth c H locs cells slots Q (F0 m (pc + 3) ls (.int (σ 6 0) :: rest))) : W p l e R s m args below meth c H locs cells slots Q (F0 m pc ls (.ref o :: rest)) :=
  va_get (D := D) (ci := 1) (v := .int (σ 6 0)) (C := RX1) (T := TX1) (N := 13) S.1 S.2.1 S.2.2.2.2.1 in_X1 S.2.2.2.1 S.2.2.2.2.2.1 Y.1 0 rfl rfl 6 (by decide) (S.2.2.2.2.1 _ q206) (fun _ h9 => h9) rfl hdg kk
theorem x1_p6 (S : gS p s m meth c cc nL args RX1 ret D (tX1 dA)) (Y : gP D (wX1 dA o q) A H0 σ H locs) (hdg : decode cc pc = .ok (.putfield 47, 3)) (kk : ∀ (σ1 : CS) (H1 : Heap) (locs1 : List Loc), σ1 = va_up σ 6 (fun _ => x) → gP D (wX1 dA o q) A H0 σ1 H1 locs1 → W p l e R s m args below meth c H1 locs1 cells slots Q (F0 m (pc + 3) ls rest)) : W p l e R s m args below meth c H locs cells slots Q (F0 m pc ls (.int x :: .ref o :: rest)) :=
  va_put (D := D) (ci := 1) (v := .int x) (ty := .int) (C := RX1) (T := TX1) (N := 13) S.1 S.2.1 S.2.2.2.2.1 in_X1 tyX1 tyX1_ok nmX1 S.2.2.2.1 S.2.2.2.2.2.1 Y.1 Y.2.1 Y.2.2 0 rfl rfl 6 (by decide) (S.2.2.2.2.1 _ q206) (fun _ h9 => h9) rfl (by decide +kernel) rfl rfl (Nat.le_of_ble_eq_true rfl) hdg (fun H1 locs1 hP hD hS => kk (va_up σ 6 (fun _ => x)) H1 locs1 rfl ⟨hP, hD, hS⟩)
theorem x1_g7 (S : gS p s m meth c cc nL args RX1 ret D (tX1 dA)) (Y : gP D (wX1 dA o q) A H0 σ H locs) (hdg : decode cc pc = .ok (.getfield 28, 3)) (kk : W p l e R s m args below meth c H locs cells slots Q (F0 m (pc + 3) ls (.ref (q 7) :: rest))) : W p l e R s m args below meth c H locs cells slots Q (F0 m pc ls (.ref o :: rest)) :=
  va_get (D := D) (ci := 1) (v := .ref (q 7)) (C := RX1) (T := TX1) (N := 13) S.1 S.2.1 S.2.2.2.2.1 in_X1 S.2.2.2.1 S.2.2.2.2.2.1 Y.1 0 rfl rfl 7 (by decide) (S.2.2.2.2.1 _ q207) (fun _ h9 => h9) rfl hdg kk
theorem x1_l7 (S : gS p s m meth c cc nL args RX1 ret D (tX1 dA)) (Y : gP D (wX1 dA o q) A H0 σ H locs) (hin : vp_in i 10) (hdg : decode cc pc = .ok (.iaload, 1)) (kk : W p l e R s m args below meth c H locs cells slots Q (F0 m (pc + 1) ls (.int (σ 7 i.toNatClampNeg) :: rest))) : W p l e R s m args below meth c H locs cells slots Q (F0 m pc ls (.int i :: .ref (q 7) :: rest)) :=
  va_iald S.1 S.2.1 S.2.2.2.2.2.1 Y.1 7 6 rfl rfl hin hdg kk
theorem x1_s7 (S : gS p s m meth c cc nL args RX1 ret D (tX1 dA)) (Y : gP D (wX1 dA o q) A H0 σ H locs) (hin : vp_in i 10) (hdg : decode cc pc = .ok (.iastore, 1)) (kk : ∀ (σ1 : CS) (H1 : Heap) (locs1 : List Loc), σ1 = va_up σ 7 (upd (σ 7) i.toNatClampNeg x) → gP D (wX1 dA o q) A H0 σ1 H1 locs1 → W p l e R s m args below meth c H1 locs1 cells slots Q (F0 m (pc + 1) ls rest)) : W p l e R s m args below meth c H locs cells slots Q (F0 m pc ls (.int x :: .int i :: .ref (q 7) :: rest)) :=
  va_iast S.1 S.2.1 S.2.2.2.2.2.1 Y.1 Y.2.1 Y.2.2 7 6 rfl rfl hin hdg (fun H1 locs1 hP hD hS => kk (va_up σ 7 (upd (σ 7) i.toNatClampNeg x)) H1 locs1 rfl ⟨hP, hD, hS⟩)
theorem x1_g8 (S : gS p s m meth c cc nL args RX1 ret D (tX1 dA)) (Y : gP D (wX1 dA o q) A H0 σ H locs) (hdg : decode cc pc = .ok (.getfield 43, 3)) (kk : W p l e R s m args below meth c H locs cells slots Q (F0 m (pc + 3) ls (.int (σ 8 0) :: rest))) : W p l e R s m args below meth c H locs cells slots Q (F0 m pc ls (.ref o :: rest)) :=
  va_get (D := D) (ci := 1) (v := .int (σ 8 0)) (C := RX1) (T := TX1) (N := 13) S.1 S.2.1 S.2.2.2.2.1 in_X1 S.2.2.2.1 S.2.2.2.2.2.1 Y.1 0 rfl rfl 8 (by decide) (S.2.2.2.2.1 _ q208) (fun _ h9 => h9) rfl hdg kk
theorem x1_p8 (S : gS p s m meth c cc nL args RX1 ret D (tX1 dA)) (Y : gP D (wX1 dA o q) A H0 σ H locs) (hdg : decode cc pc = .ok (.putfield 43, 3)) (kk : ∀ (σ1 : CS) (H1 : Heap) (locs1 : List Loc), σ1 = va_up σ 8 (fun _ => x) → gP D (wX1 dA o q) A H0 σ1 H1 locs1 → W p l e R s m args below meth c H1 locs1 cells slots Q (F0 m (pc + 3) ls rest)) : W p l e R s m args below meth c H locs cells slots Q (F0 m pc ls (.int x :: .ref o :: rest)) :=
  va_put (D := D) (ci := 1) (v := .int x) (ty := .int) (C := RX1) (T := TX1) (N := 13) S.1 S.2.1 S.2.2.2.2.1 in_X1 tyX1 tyX1_ok nmX1 S.2.2.2.1 S.2.2.2.2.2.1 Y.1 Y.2.1 Y.2.2 0 rfl rfl 8 (by decide) (S.2.2.2.2.1 _ q208) (fun _ h9 => h9) rfl (by decide +kernel) rfl rfl (Nat.le_of_ble_eq_true rfl) hdg (fun H1 locs1 hP hD hS => kk (va_up σ 8 (fun _ => x)) H1 locs1 rfl ⟨hP, hD, hS⟩)
theorem x1_g9 (S : gS p s m meth c cc nL args RX1 ret D (tX1 dA)) (Y : gP D (wX1 dA o q) A H0 σ H locs) (hdg : decode cc pc = .ok (.getfield 31, 3)) (kk : W p l e R s m args below meth c H locs cells slots Q (F0 m (pc + 3) ls (.ref (q 9) :: rest))) : W p l e R s m args below meth c H locs cells slots Q (F0 m pc ls (.ref o :: rest)) :=
  va_get (D := D) (ci := 1) (v := .ref (q 9)) (C := RX1) (T := TX1) (N := 13) S.1 S.2.1 S.2.2.2.2.1 in_X1 S.2.2.2.1 S.2.2.2.2.2.1 Y.1 0 rfl rfl 9 (by decide) (S.2.2.2.2.1 _ q209) (fun _ h9 => h9) rfl hdg kk
theorem x1_l9 (S : gS p s m meth c cc nL args RX1 ret D (tX1 dA)) (Y : gP D (wX1 dA o q) A H0 σ H locs) (hin : vp_in i 64) (hdg : decode cc pc = .ok (.iaload, 1)) (kk : W p l e R s m args below meth c H locs cells slots Q (F0 m (pc + 1) ls (.int (σ 9 i.toNatClampNeg) :: rest))) : W p l e R s m args below meth c H locs cells slots Q (F0 m pc ls (.int i :: .ref (q 9) :: rest)) :=
  va_iald S.1 S.2.1 S.2.2.2.2.2.1 Y.1 8 7 rfl rfl hin hdg kk
theorem x1_s9 (S : gS p s m meth c cc nL args RX1 ret D (tX1 dA)) (Y : gP D (wX1 dA o q) A H0 σ H locs) (hin : vp_in i 64) (hdg : decode cc pc = .ok (.iastore, 1)) (kk : ∀ (σ1 : CS) (H1 : Heap) (locs1 : List Loc), σ1 = va_up σ 9 (upd (σ 9) i.toNatClampNeg x) → gP D (wX1 dA o q) A H0 σ1 H1 locs1 → W p l e R s m args below meth c H1 locs1 cells slots Q (F0 m (pc + 1) ls rest)) : W p l e R s m args below meth c H locs cells slots Q (F0 m pc ls (.int x :: .int i :: .ref (q 9) :: rest)) :=
  va_iast S.1 S.2.1 S.2.2.2.2.2.1 Y.1 Y.2.1 Y.2.2 8 7 rfl rfl hin hdg (fun H1 locs1 hP hD hS => kk (va_up σ 9 (upd (σ 9) i.toNatClampNeg x)) H1 locs1 rfl ⟨hP, hD, hS⟩)
theorem x1_g10 (S : gS p s m meth c cc nL args RX1 ret D (tX1 dA)) (Y : gP D (wX1 dA o q) A H0 σ H locs) (hdg : decode cc pc = .ok (.getfield 34, 3)) (kk : W p l e R s m args below meth c H locs cells slots Q (F0 m (pc + 3) ls (.ref (q 10) :: rest))) : W p l e R s m args below meth c H locs cells slots Q (F0 m pc ls (.ref o :: rest)) :=
  va_get (D := D) (ci := 1) (v := .ref (q 10)) (C := RX1) (T := TX1) (N := 13) S.1 S.2.1 S.2.2.2.2.1 in_X1 S.2.2.2.1 S.2.2.2.2.2.1 Y.1 0 rfl rfl 10 (by decide) (S.2.2.2.2.1 _ q210) (fun _ h9 => h9) rfl hdg kk
theorem x1_l10 (S : gS p s m meth c cc nL args RX1 ret D (tX1 dA)) (Y : gP D (wX1 dA o q) A H0 σ H locs) (hin : vp_in i 64) (hdg : decode cc pc = .ok (.iaload, 1)) (kk : W p l e R s m args below meth c H locs cells slots Q (F0 m (pc + 1) ls (.int (σ 10 i.toNatClampNeg) :: rest))) : W p l e R s m args below meth c H locs cells slots Q (F0 m pc ls (.int i :: .ref (q 10) :: rest)) :=
  va_iald S.1 S.2.1 S.2.2.2.2.2.1 Y.1 9 8 rfl rfl hin hdg kk
theorem x1_s10 (S : gS p s m meth c cc nL args RX1 ret D (tX1 dA)) (Y : gP D (wX1 dA o q) A H0 σ H locs) (hin : vp_in i 64) (hdg : decode cc pc = .ok (.iastore, 1)) (kk : ∀ (σ1 : CS) (H1 : Heap) (locs1 : List Loc), σ1 = va_up σ 10 (upd (σ 10) i.toNatClampNeg x) → gP D (wX1 dA o q) A H0 σ1 H1 locs1 → W p l e R s m args below meth c H1 locs1 cells slots Q (F0 m (pc + 1) ls rest)) : W p l e R s m args below meth c H locs cells slots Q (F0 m pc ls (.int x :: .int i :: .ref (q 10) :: rest)) :=
  va_iast S.1 S.2.1 S.2.2.2.2.2.1 Y.1 Y.2.1 Y.2.2 9 8 rfl rfl hin hdg (fun H1 locs1 hP hD hS => kk (va_up σ 10 (upd (σ 10) i.toNatClampNeg x)) H1 locs1 rfl ⟨hP, hD, hS⟩)
theorem x1_g11 (S : gS p s m meth c cc nL args RX1 ret D (tX1 dA)) (Y : gP D (wX1 dA o q) A H0 σ H locs) (hdg : decode cc pc = .ok (.getfield 37, 3)) (kk : W p l e R s m args below meth c H locs cells slots Q (F0 m (pc + 3) ls (.ref (q 11) :: rest))) : W p l e R s m args below meth c H locs cells slots Q (F0 m pc ls (.ref o :: rest)) :=
  va_get (D := D) (ci := 1) (v := .ref (q 11)) (C := RX1) (T := TX1) (N := 13) S.1 S.2.1 S.2.2.2.2.1 in_X1 S.2.2.2.1 S.2.2.2.2.2.1 Y.1 0 rfl rfl 11 (by decide) (S.2.2.2.2.1 _ q211) (fun _ h9 => h9) rfl hdg kk
theorem x1_l11 (S : gS p s m meth c cc nL args RX1 ret D (tX1 dA)) (Y : gP D (wX1 dA o q) A H0 σ H locs) (hin : vp_in i 64) (hdg : decode cc pc = .ok (.iaload, 1)) (kk : W p l e R s m args below meth c H locs cells slots Q (F0 m (pc + 1) ls (.int (σ 11 i.toNatClampNeg) :: rest))) : W p l e R s m args below meth c H locs cells slots Q (F0 m pc ls (.int i :: .ref (q 11) :: rest)) :=
  va_iald S.1 S.2.1 S.2.2.2.2.2.1 Y.1 10 9 rfl rfl hin hdg kk
theorem x1_s11 (S : gS p s m meth c cc nL args RX1 ret D (tX1 dA)) (Y : gP D (wX1 dA o q) A H0 σ H locs) (hin : vp_in i 64) (hdg : decode cc pc = .ok (.iastore, 1)) (kk : ∀ (σ1 : CS) (H1 : Heap) (locs1 : List Loc), σ1 = va_up σ 11 (upd (σ 11) i.toNatClampNeg x) → gP D (wX1 dA o q) A H0 σ1 H1 locs1 → W p l e R s m args below meth c H1 locs1 cells slots Q (F0 m (pc + 1) ls rest)) : W p l e R s m args below meth c H locs cells slots Q (F0 m pc ls (.int x :: .int i :: .ref (q 11) :: rest)) :=
  va_iast S.1 S.2.1 S.2.2.2.2.2.1 Y.1 Y.2.1 Y.2.2 10 9 rfl rfl hin hdg (fun H1 locs1 hP hD hS => kk (va_up σ 11 (upd (σ 11) i.toNatClampNeg x)) H1 locs1 rfl ⟨hP, hD, hS⟩)
theorem x1_g12 (S : gS p s m meth c cc nL args RX1 ret D (tX1 dA)) (Y : gP D (wX1 dA o q) A H0 σ H locs) (hdg : decode cc pc = .ok (.getfield 62, 3)) (kk : W p l e R s m args below meth c H locs cells slots Q (F0 m (pc + 3) ls (.int (σ 12 0) :: rest))) : W p l e R s m args below meth c H locs cells slots Q (F0 m pc ls (.ref o :: rest)) :=
  va_get (D := D) (ci := 1) (v := .int (σ 12 0)) (C := RX1) (T := TX1) (N := 13) S.1 S.2.1 S.2.2.2.2.1 in_X1 S.2.2.2.1 S.2.2.2.2.2.1 Y.1 0 rfl rfl 12 (by decide) (S.2.2.2.2.1 _ q212) (fun _ h9 => h9) rfl hdg kk
theorem x1_p12 (S : gS p s m meth c cc nL args RX1 ret D (tX1 dA)) (Y : gP D (wX1 dA o q) A H0 σ H locs) (hdg : decode cc pc = .ok (.putfield 62, 3)) (kk : ∀ (σ1 : CS) (H1 : Heap) (locs1 : List Loc), σ1 = va_up σ 12 (fun _ => x) → gP D (wX1 dA o q) A H0 σ1 H1 locs1 → W p l e R s m args below meth c H1 locs1 cells slots Q (F0 m (pc + 3) ls rest)) : W p l e R s m args below meth c H locs cells slots Q (F0 m pc ls (.int x :: .ref o :: rest)) :=
  va_put (D := D) (ci := 1) (v := .int x) (ty := .int) (C := RX1) (T := TX1) (N := 13) S.1 S.2.1 S.2.2.2.2.1 in_X1 tyX1 tyX1_ok nmX1 S.2.2.2.1 S.2.2.2.2.2.1 Y.1 Y.2.1 Y.2.2 0 rfl rfl 12 (by decide) (S.2.2.2.2.1 _ q212) (fun _ h9 => h9) rfl (by decide +kernel) rfl rfl (Nat.le_of_ble_eq_true rfl) hdg (fun H1 locs1 hP hD hS => kk (va_up σ 12 (fun _ => x)) H1 locs1 rfl ⟨hP, hD, hS⟩)
end ROWS
end
section
/-! THE PURE WORDS: what the methods compute. The abstract state α is numbered as the model's fields: 0 key, 1 left, 2 right, 3 rank, 4 state, 5 free pile, 6 how many are free, 7 tops, 8 how many heaps -/
/-- a pointer: none, or a cell -/
def Pt (x : Int32) : Prop := x = -1 ∨ vp_in x 60
def Bd (f : Nat → Int32) : Prop := ∀ i : Nat, i < 60 → Pt (f i)
/-- the same but for some fields -/
def Ex (ks : List Nat) (σ σ' : CS) : Prop := ∀ k : Nat, k ∉ ks → σ' k = σ k
theorem vp_lt {x : Int32} {n : Nat} (h : vp_in x n) : x.toNatClampNeg < n := Nat.not_le.mp fun q => h (Or.inr q)
theorem vp_ge {x : Int32} {n : Nat} (h : vp_in x n) : ¬ x < 0 := fun q => h (Or.inl q)
theorem vp_wide {x : Int32} {n k : Nat} (h : vp_in x n) (hk : n ≤ k) : vp_in x k := fun q => q.elim (fun a => h (Or.inl a)) (fun a => h (Or.inr (Nat.le_trans hk a)))
theorem m1_neg : (-1 : Int32) < 0 := by decide
theorem Pt_in {x : Int32} (h : Pt x) (h0 : ¬ x < 0) : vp_in x 60 := h.resolve_left (fun e => h0 (by rw [e]; exact m1_neg))
theorem Pt_neg {x : Int32} (h : Pt x) (h0 : x < 0) : x = -1 := h.resolve_right (fun e => vp_ge e h0)
theorem Pt_m1 : Pt (-1) := Or.inl rfl
theorem Bd_at {f : Nat → Int32} {x : Int32} (h : Bd f) (hx : vp_in x 60) : Pt (f x.toNatClampNeg) := h _ (vp_lt hx)
theorem Bd_upd {f : Nat → Int32} {k : Nat} {x : Int32} (h : Bd f) (hx : Pt x) : Bd (upd f k x) := by
  intro i hi
  by_cases e : i = k
  · rw [e, pk_us]; exact hx
  · rw [pk_un e]; exact h i hi
theorem upd_upd (f : Nat → Int32) (k : Nat) (x y : Int32) : upd (upd f k x) k y = upd f k y := by
  funext j
  by_cases e : j = k
  · rw [e, pk_us, pk_us]
  · rw [pk_un e, pk_un e, pk_un e]
theorem up_s {σ : CS} {k : Nat} {f : Nat → Int32} : va_up σ k f k = f := by simp [va_up]
theorem up_n {σ : CS} {k j : Nat} {f : Nat → Int32} (h : j ≠ k) : va_up σ k f j = σ j := by simp [va_up, h]
theorem ge0 {x : Int32} : 0 ≤ x ↔ ¬ x < 0 := by
  rw [Int32.le_iff_toInt_le, Int32.lt_iff_toInt_lt]; omega
theorem not_le32 {x y : Int32} : ¬ x ≤ y ↔ y < x := by
  rw [Int32.le_iff_toInt_le, Int32.lt_iff_toInt_lt]; omega
theorem not_lt32 {x y : Int32} : ¬ x < y ↔ y ≤ x := by
  rw [Int32.le_iff_toInt_le, Int32.lt_iff_toInt_lt]; omega
/-- which comes first -/
def bf (key : Nat → Int32) (a b : Int32) : Prop := key a.toNatClampNeg < key b.toNatClampNeg ∨ (key a.toNatClampNeg = key b.toNatClampNeg ∧ a < b)
def rk (K : Nat → Int32) (x : Int32) : Int32 := if x < 0 then 0 else K x.toNatClampNeg
/-- down two right spines: the cells gone through, and what is left below -/
def Dn (key R : Nat → Int32) : List Int32 → Int32 → Int32 → Int32 → Prop
  | [], a, b, bl => (a < 0 ∨ b < 0) ∧ bl = (if a < 0 then b else a)
  | c :: st, a, b, bl => ¬ a < 0 ∧ ¬ b < 0 ∧ ((bf key a b ∧ c = a ∧ Dn key R st (R a.toNatClampNeg) b bl) ∨ (¬ bf key a b ∧ c = b ∧ Dn key R st a (R b.toNatClampNeg) bl))
/-- one cell on the way up -/
def up1 (c x : Int32) (α : CS) : CS :=
  if rk (α 3) (α 1 c.toNatClampNeg) < rk (α 3) x then va_up (va_up (va_up α 1 (upd (α 1) c.toNatClampNeg x)) 2 (upd (α 2) c.toNatClampNeg (α 1 c.toNatClampNeg))) 3 (upd (α 3) c.toNatClampNeg (rk (α 3) (α 1 c.toNatClampNeg) + 1))
  else va_up (va_up α 2 (upd (α 2) c.toNatClampNeg x)) 3 (upd (α 3) c.toNatClampNeg (rk (α 3) x + 1))
/-- all the way up -/
def upA : List Int32 → Int32 → CS → Int32 × CS
  | [], bl, α => (bl, α)
  | c :: st, bl, α => (c, up1 c (upA st bl α).1 (upA st bl α).2)
/-- two tops are melded -/
def Md (α : CS) (a b r : Int32) (α' : CS) : Prop := (Bd (α 1) ∧ Bd (α 2) ∧ Pt a ∧ Pt b) ∧ ∃ (stk : List Int32) (bl : Int32), Dn (α 0) (α 2) stk a b bl ∧ stk.length ≤ 60 ∧ r = (upA stk bl α).1 ∧ α' = (upA stk bl α).2
/-- a row of tops, two by two, once -/
def Ps : List Int32 → CS → List Int32 → CS → Prop
  | [], α, out, α' => out = [] ∧ α' = α
  | [x], α, out, α' => out = [x] ∧ α' = α
  | x :: y :: rs, α, out, α' => ∃ (r : Int32) (α1 : CS) (out' : List Int32), Md α x y r α1 ∧ Ps rs α1 out' α' ∧ out = r :: out'
/-- a row of tops becomes one -/
def Mr : Nat → List Int32 → CS → Int32 → CS → Prop
  | 0, rs, α, r, α' => (rs = [] ∧ r = -1 ∨ rs = [r]) ∧ α' = α
  | n + 1, rs, α, r, α' => 2 ≤ rs.length ∧ ∃ (out : List Int32) (α1 : CS), Ps rs α out α1 ∧ Mr n out α1 r α'
def alone (c : Int32) (α : CS) : CS := va_up (va_up (va_up α 1 (upd (α 1) c.toNatClampNeg (-1))) 2 (upd (α 2) c.toNatClampNeg (-1))) 3 (upd (α 3) c.toNatClampNeg 1)
def letgo (c : Int32) (α : CS) : CS := va_up (va_up (va_up α 4 (upd (α 4) c.toNatClampNeg 0)) 5 (upd (α 5) (α 6 0).toNatClampNeg c)) 6 (fun _ => α 6 0 + 1)
/-- two children onto a stack, the first on top -/
def ph (l r : Int32) (stk : List Int32) : List Int32 := (if l < 0 then [] else [l]) ++ ((if r < 0 then [] else [r]) ++ stk)
/-- going through from a stack of tops: z = 0: live ones end it, else all -/
def Pg (z : Int32) : Nat → List Int32 → List Int32 → CS → List Int32 → CS → Prop
  | 0, stk, row, α, row', α' => stk = [] ∧ row' = row ∧ α' = α
  | n + 1, stk, row, α, row', α' => ∃ (c : Int32) (st' : List Int32), stk = c :: st' ∧ stk.length ≤ 60 ∧ row.length < 60 ∧ vp_in c 60 ∧
      ((α 4 c.toNatClampNeg = 1 ∧ z = 0 ∧ Pg z n st' (row ++ [c]) α row' α')
      ∨ (α 4 c.toNatClampNeg = 1 ∧ ¬ z = 0 ∧ Pg z n (ph (α 1 c.toNatClampNeg) (α 2 c.toNatClampNeg) st') (row ++ [c]) (alone c α) row' α')
      ∨ (α 4 c.toNatClampNeg = 2 ∧ vp_in (α 6 0) 60 ∧ Pg z n (ph (α 1 c.toNatClampNeg) (α 2 c.toNatClampNeg) st') row (letgo c α) row' α'))
/-- what lives from a top on is melded -/
def Pu (α : CS) (top z r : Int32) (α' : CS) : Prop := Pt top ∧ Bd (α 1) ∧ Bd (α 2) ∧ ∃ (n : Nat) (row : List Int32) (α1 : CS) (k : Nat), Pg z n (if top < 0 then [] else [top]) [] α row α1 ∧ row.length ≤ 60 ∧ Mr k row α1 r α'
/-- every heap from h on is cleared -/
def Cl : Nat → Nat → CS → CS → Prop
  | 0, _, α, α' => α' = α
  | n + 1, h, α, α' => ∃ (r : Int32) (α1 : CS), Pu α (α 7 h) 1 r α1 ∧ Cl n (h + 1) (va_up α1 7 (upd (α1 7) h r)) α'
/-- a search from a stack of tops: how many live (cell < 0), or how often a cell is met -/
def Lk (α : CS) (cell : Int32) : Nat → List Int32 → Int32 → Int32 → Prop
  | 0, stk, n, r => stk = [] ∧ r = n
  | k + 1, stk, n, r => ∃ (c : Int32) (st' : List Int32), stk = c :: st' ∧ stk.length ≤ 60 ∧ vp_in c 60 ∧
      Lk α cell k (ph (α 2 c.toNatClampNeg) (α 1 c.toNatClampNeg) st') (if cell < 0 then (if α 4 c.toNatClampNeg = 1 then n + 1 else n) else (if c = cell then n + 1 else n)) r
/-- a token's root, the path halved -/
def Ow : Nat → (Nat → Int32) → Int32 → (Nat → Int32) → Int32 → Prop
  | 0, ld, t, ld', r => vp_in t 1100 ∧ ld t.toNatClampNeg = t ∧ ld' = ld ∧ r = t
  | n + 1, ld, t, ld', r => vp_in t 1100 ∧ vp_in (ld t.toNatClampNeg) 1100 ∧ ¬ ld t.toNatClampNeg = t ∧ Ow n (upd ld t.toNatClampNeg (ld (ld t.toNatClampNeg).toNatClampNeg)) (ld (ld t.toNatClampNeg).toNatClampNeg) ld' r
/-- is a heap -/
def isH (α : CS) (h : Int32) : Prop := 0 ≤ h ∧ h < α 8 0
/-- the class's state σ against the abstract one -/
def Ac (α σ : CS) : Prop := σ 0 = α 0 ∧ σ 1 = α 1 ∧ σ 2 = α 2 ∧ σ 3 = α 3 ∧
  (∀ i : Nat, i < 60 → (α 4 i = 0 ∧ σ 4 i = 0) ∨ (α 4 i = 1 ∧ σ 4 i = 1 ∧ σ 5 i = 0) ∨ (α 4 i = 2 ∧ σ 4 i = 1 ∧ σ 5 i = 1)) ∧
  σ 12 = α 5 ∧ σ 15 0 = α 6 0 ∧ σ 6 = α 7 ∧ σ 16 0 = α 8 0
/-- the model's state τ against the abstract one -/
def Am (α τ : CS) : Prop := ∀ k : Nat, k < 9 → τ k = α k
/-- what is the class's own stays: counts, tokens -/
def Ko (σ σ' : CS) : Prop := σ' 7 = σ 7 ∧ σ' 8 = σ 8 ∧ σ' 9 = σ 9 ∧ σ' 10 = σ 10 ∧ σ' 11 = σ 11 ∧ σ' 17 = σ 17
theorem Ko_rf (σ : CS) : Ko σ σ := ⟨rfl, rfl, rfl, rfl, rfl, rfl⟩
theorem Ko_tr {a b c : CS} (h1 : Ko a b) (h2 : Ko b c) : Ko a c := ⟨h2.1.trans h1.1, h2.2.1.trans h1.2.1, h2.2.2.1.trans h1.2.2.1, h2.2.2.2.1.trans h1.2.2.2.1, h2.2.2.2.2.1.trans h1.2.2.2.2.1, h2.2.2.2.2.2.trans h1.2.2.2.2.2⟩
theorem Ex_rf (ks : List Nat) (σ : CS) : Ex ks σ σ := fun _ _ => rfl
theorem Ex_tr {ks : List Nat} {a b c : CS} (h1 : Ex ks a b) (h2 : Ex ks b c) : Ex ks a c := fun k h => (h2 k h).trans (h1 k h)
theorem Ex_up {ks : List Nat} {σ : CS} {k : Nat} {f : Nat → Int32} (h : k ∈ ks) : Ex ks σ (va_up σ k f) := fun j hj => up_n (fun e => hj (e ▸ h))
theorem bz0 : vp_nar .boolean 0 = 0 := by decide +kernel
theorem bz1 : vp_nar .boolean 1 = 1 := by decide +kernel
theorem vp60 {x : Int32} (h0 : ¬ x < 0) (h1 : ¬ (60 : Int32) ≤ x) : vp_in x 60 := by
  rw [vp_in_iff]
  rw [Int32.lt_iff_toInt_lt] at h0
  rw [Int32.le_iff_toInt_le] at h1
  have e0 : (0 : Int32).toInt = 0 := by decide
  have e1 : (60 : Int32).toInt = 60 := by decide
  omega
theorem vp60' {x : Int32} (h : vp_in x 60) : ¬ (60 : Int32) ≤ x := by
  rw [vp_in_iff] at h
  rw [Int32.le_iff_toInt_le]
  have e1 : (60 : Int32).toInt = 60 := by decide
  omega
/-- an array holds a list from its start on -/
def Hl (f : Nat → Int32) (l : List Int32) : Prop := ∀ j : Nat, j < l.length → f j = l.getD j 0
theorem Hl_nil (f : Nat → Int32) : Hl f [] := fun j h => absurd h (Nat.not_lt_zero j)
theorem Hl_push {f : Nat → Int32} {l : List Int32} (h : Hl f l) (c : Int32) : Hl (upd f l.length c) (l ++ [c]) := by
  intro j hj
  rw [List.length_append, List.length_singleton] at hj
  by_cases e : j = l.length
  · rw [e, pk_us]; simp
  · have hl : j < l.length := by omega
    rw [pk_un e, h j hl]
    simp [List.getD_eq_getElem?_getD, List.getElem?_append_left hl]
theorem Hl_mid {f : Nat → Int32} {a b : List Int32} {c : Int32} (h : Hl f (a ++ c :: b)) : f a.length = c := by
  rw [h a.length (by simp)]
  simp [List.getD_eq_getElem?_getD]
theorem Hl_left {f : Nat → Int32} {a b : List Int32} (h : Hl f (a ++ b)) : Hl f a := by
  intro j hj
  rw [h j (by rw [List.length_append]; omega)]
  simp [List.getD_eq_getElem?_getD, List.getElem?_append_left hj]
def ipile (k : Nat) (f : Nat → Int32) : Nat → Int32 := fun j => if j < k then 59 - nI j else f j
def zst (k : Nat) (f : Nat → Int32) : Nat → Int32 := fun j => if j < k then 0 else f j
theorem ipile_0 (f : Nat → Int32) : ipile 0 f = f := by funext j; simp [ipile]
theorem zst_0 (f : Nat → Int32) : zst 0 f = f := by funext j; simp [zst]
theorem ipile_s (k : Nat) (f : Nat → Int32) : upd (ipile k f) k (59 - nI k) = ipile (k + 1) f := by
  funext j
  by_cases e : j = k
  · rw [e, pk_us]; simp [ipile]
  · rw [pk_un e]
    by_cases h : j < k
    · simp [ipile, h, Nat.lt_succ_of_lt h]
    · simp [ipile, h, show ¬ j < k + 1 by omega]
theorem zst_s (k : Nat) (f : Nat → Int32) : upd (zst k f) k 0 = zst (k + 1) f := by
  funext j
  by_cases e : j = k
  · rw [e, pk_us]; simp [zst]
  · rw [pk_un e]
    by_cases h : j < k
    · simp [zst, h, Nat.lt_succ_of_lt h]
    · simp [zst, h, show ¬ j < k + 1 by omega]
/-- the class's release of a cell, its new token -/
def rel0 (c : Int32) (σ : CS) : CS := va_up (va_up (va_up σ 4 (upd (σ 4) c.toNatClampNeg 0)) 12 (upd (σ 12) (σ 15 0).toNatClampNeg c)) 15 (fun _ => σ 15 0 + 1)
def ntok (h : Int32) (σ : CS) : CS := va_up (va_up (va_up (va_up σ 11 (upd (σ 11) h.toNatClampNeg (σ 17 0))) 9 (upd (σ 9) (σ 17 0).toNatClampNeg (σ 17 0))) 10 (upd (σ 10) (σ 17 0).toNatClampNeg h)) 17 (fun _ => σ 17 0 + 1)
def nhp0 (σ : CS) : CS := va_up (ntok (σ 16 0) (va_up (va_up σ 6 (upd (σ 6) (σ 16 0).toNatClampNeg (-1))) 7 (upd (σ 7) (σ 16 0).toNatClampNeg 0))) 16 (fun _ => σ 16 0 + 1)
theorem Dn_t {key R : Nat → Int32} {c a b bl : Int32} {st : List Int32} (h : Dn key R (c :: st) a b bl) (hb : bf key a b) : c = a ∧ Dn key R st (R a.toNatClampNeg) b bl := by
  rcases h.2.2 with h | h
  · exact h.2
  · exact absurd hb h.1
theorem Dn_f {key R : Nat → Int32} {c a b bl : Int32} {st : List Int32} (h : Dn key R (c :: st) a b bl) (hb : ¬ bf key a b) : c = b ∧ Dn key R st a (R b.toNatClampNeg) bl := by
  rcases h.2.2 with h | h
  · exact absurd h.1 hb
  · exact h.2
theorem Dn_in {key R : Nat → Int32} (hR : Bd R) : ∀ (st : List Int32) {a b bl : Int32}, Dn key R st a b bl → Pt a → Pt b → (∀ c ∈ st, vp_in c 60) ∧ Pt bl
  | [], a, b, bl, h, ha, hb => by
    refine ⟨fun c hc => (List.not_mem_nil hc).elim, ?_⟩
    rw [h.2]
    split
    · exact hb
    · exact ha
  | c :: st, a, b, bl, h, ha, hb => by
    have hia := Pt_in ha h.1
    have hib := Pt_in hb h.2.1
    rcases h.2.2 with ⟨-, e, h2⟩ | ⟨-, e, h2⟩
    · obtain ⟨h3, h4⟩ := Dn_in hR st h2 (Bd_at hR hia) hb
      refine ⟨fun d hd => ?_, h4⟩
      rcases List.mem_cons.mp hd with e2 | hd
      · rw [e2, e]; exact hia
      · exact h3 d hd
    · obtain ⟨h3, h4⟩ := Dn_in hR st h2 ha (Bd_at hR hib)
      refine ⟨fun d hd => ?_, h4⟩
      rcases List.mem_cons.mp hd with e2 | hd
      · rw [e2, e]; exact hib
      · exact h3 d hd
theorem Pt_of {x : Int32} (h : vp_in x 60) : Pt x := Or.inr h
theorem up1_Bd {c x : Int32} {α : CS} (hc : vp_in c 60) (hx : Pt x) (h1 : Bd (α 1)) (h2 : Bd (α 2)) : Bd (up1 c x α 1) ∧ Bd (up1 c x α 2) := by
  unfold up1
  split
  · exact ⟨Bd_upd h1 hx, Bd_upd h2 (Bd_at h1 hc)⟩
  · exact ⟨h1, Bd_upd h2 hx⟩
theorem upA_Bd {bl : Int32} {α : CS} (hb : Pt bl) (h1 : Bd (α 1)) (h2 : Bd (α 2)) : ∀ (st : List Int32), (∀ c ∈ st, vp_in c 60) → Pt (upA st bl α).1 ∧ Bd ((upA st bl α).2 1) ∧ Bd ((upA st bl α).2 2)
  | [], _ => ⟨hb, h1, h2⟩
  | c :: st, h => by
    obtain ⟨i1, i2, i3⟩ := upA_Bd hb h1 h2 st (fun d hd => h d (List.mem_cons_of_mem _ hd))
    have hc := h c List.mem_cons_self
    obtain ⟨j1, j2⟩ := up1_Bd hc i1 i2 i3
    exact ⟨Or.inr hc, j1, j2⟩
theorem up1_ex {c x : Int32} {α : CS} {k : Nat} (h1 : k ≠ 1) (h2 : k ≠ 2) (h3 : k ≠ 3) : up1 c x α k = α k := by
  unfold up1
  split
  · rw [up_n h3, up_n h2, up_n h1]
  · rw [up_n h3, up_n h2]
theorem upA_ex {bl : Int32} {α : CS} {k : Nat} (h1 : k ≠ 1) (h2 : k ≠ 2) (h3 : k ≠ 3) : ∀ (st : List Int32), (upA st bl α).2 k = α k
  | [] => rfl
  | c :: st => (up1_ex h1 h2 h3).trans (upA_ex h1 h2 h3 st)
end
section
set_option maxHeartbeats 4000000 in
set_option maxRecDepth 100000 in
/-- LeftistHeaps.isBefore -/
theorem c0_isBefore (l : Launch) (D : va_G) (dA : Nat → ClassId) (o : Nat) (q : Nat → Nat) (σ : CS) (a b : Int32) (h_a : vp_in a 60) (h_b : vp_in b 60) : gMi l D (wX0 dA o q) (tX0 dA) yX0_isBefore cX0_isBefore 3 (some .boolean) { frames := 0, cells := 0, slots := 0, locals := 0 } [.ref o, .int a, .int b] σ (fun r σ' => σ' = σ ∧ ((r = 1 ∧ bf (σ 0) a b) ∨ (r = 0 ∧ ¬ bf (σ 0) a b))) := by
  intro sz
  refine gEnter (own := RX0) (lv := [(0, .ref o), (1, .int a), (2, .int b)]) (wX0_g dA o q) (by decide) rfl (Nat.le_of_ble_eq_true rfl) rfl (fun p e s m below meth c ls S hA Y hl => ?_)
  have hx := S.1
  have hb := S.2.1
  refine lv_aload_n hx hb dX0_isBefore_0 rfl (lv_at hl 0 rfl) ?_
  refine x0_g0 S Y dX0_isBefore_1 ?_
  refine lv_iload_n hx hb dX0_isBefore_4 rfl (lv_at hl 1 rfl) ?_
  refine x0_l0 S Y h_a dX0_isBefore_5 ?_
  refine lv_aload_n hx hb dX0_isBefore_6 rfl (lv_at hl 0 rfl) ?_
  refine x0_g0 S Y dX0_isBefore_7 ?_
  refine lv_iload_n hx hb dX0_isBefore_10 rfl (lv_at hl 2 rfl) ?_
  refine x0_l0 S Y h_b dX0_isBefore_11 ?_
  refine lv_icmp_lt (tgt := 35) hx hb dX0_isBefore_12 (by decide) (fun c12 => ?_) (fun c12 => ?_)
  · skip
    refine lv_iconst (v := 1) hx hb dX0_isBefore_35 (by decide) ?_
    refine lv_goto (tgt := 40) hx hb dX0_isBefore_36 (by decide) ?_
    exact gIret S Y rfl (⟨rfl, Or.inl ⟨rfl, Or.inl c12⟩⟩) dX0_isBefore_40
  · skip
    refine lv_aload_n hx hb dX0_isBefore_15 rfl (lv_at hl 0 rfl) ?_
    refine x0_g0 S Y dX0_isBefore_16 ?_
    refine lv_iload_n hx hb dX0_isBefore_19 rfl (lv_at hl 1 rfl) ?_
    refine x0_l0 S Y h_a dX0_isBefore_20 ?_
    refine lv_aload_n hx hb dX0_isBefore_21 rfl (lv_at hl 0 rfl) ?_
    refine x0_g0 S Y dX0_isBefore_22 ?_
    refine lv_iload_n hx hb dX0_isBefore_25 rfl (lv_at hl 2 rfl) ?_
    refine x0_l0 S Y h_b dX0_isBefore_26 ?_
    refine lv_icmp_ne (tgt := 39) hx hb dX0_isBefore_27 (by decide) (fun c27 => ?_) (fun c27 => ?_)
    · skip
      refine lv_iconst (v := 0) hx hb dX0_isBefore_39 (by decide) ?_
      exact gIret S Y rfl (⟨rfl, Or.inr ⟨rfl, fun h => h.elim c12 (fun h => c27 h.1)⟩⟩) dX0_isBefore_40
    · skip
      refine lv_iload_n hx hb dX0_isBefore_30 rfl (lv_at hl 1 rfl) ?_
      refine lv_iload_n hx hb dX0_isBefore_31 rfl (lv_at hl 2 rfl) ?_
      refine lv_icmp_ge (tgt := 39) hx hb dX0_isBefore_32 (by decide) (fun c32 => ?_) (fun c32 => ?_)
      · skip
        refine lv_iconst (v := 0) hx hb dX0_isBefore_39 (by decide) ?_
        exact gIret S Y rfl (⟨rfl, Or.inr ⟨rfl, fun h => h.elim c12 (fun h => not_lt32.mpr c32 h.2)⟩⟩) dX0_isBefore_40
      · skip
        refine lv_iconst (v := 1) hx hb dX0_isBefore_35 (by decide) ?_
        refine lv_goto (tgt := 40) hx hb dX0_isBefore_36 (by decide) ?_
        exact gIret S Y rfl (⟨rfl, Or.inl ⟨rfl, Or.inr ⟨c27, not_le32.mp c32⟩⟩⟩) dX0_isBefore_40
set_option maxHeartbeats 4000000 in
set_option maxRecDepth 100000 in
theorem c0_rankOf (l : Launch) (D : va_G) (dA : Nat → ClassId) (o : Nat) (q : Nat → Nat) (σ : CS) (x : Int32) (h_x : Pt x) : gMi l D (wX0 dA o q) (tX0 dA) yX0_rankOf cX0_rankOf 2 (some .int) { frames := 0, cells := 0, slots := 0, locals := 0 } [.ref o, .int x] σ (fun r σ' => σ' = σ ∧ r = rk (σ 3) x) := by
  intro sz
  refine gEnter (own := RX0) (lv := [(0, .ref o), (1, .int x)]) (wX0_g dA o q) (by decide) rfl (Nat.le_of_ble_eq_true rfl) rfl (fun p e s m below meth c ls S hA Y hl => ?_)
  have hx := S.1
  have hb := S.2.1
  refine lv_iload_n hx hb dX0_rankOf_0 rfl (lv_at hl 1 rfl) ?_
  refine lv_if_ge (tgt := 8) hx hb dX0_rankOf_1 (by decide) (fun c1 => ?_) (fun c1 => ?_)
  · skip
    refine lv_aload_n hx hb dX0_rankOf_8 rfl (lv_at hl 0 rfl) ?_
    refine x0_g3 S Y dX0_rankOf_9 ?_
    refine lv_iload_n hx hb dX0_rankOf_12 rfl (lv_at hl 1 rfl) ?_
    refine x0_l3 S Y (Pt_in h_x (ge0.mp c1)) dX0_rankOf_13 ?_
    exact gIret S Y rfl (⟨rfl, by rw [rk, if_neg (ge0.mp c1)]⟩) dX0_rankOf_14
  · skip
    refine lv_iconst (v := 0) hx hb dX0_rankOf_4 (by decide) ?_
    refine lv_goto (tgt := 14) hx hb dX0_rankOf_5 (by decide) ?_
    exact gIret S Y rfl (⟨rfl, by rw [rk, if_pos (not_le32.mp c1)]⟩) dX0_rankOf_14
set_option maxHeartbeats 4000000 in
set_option maxRecDepth 100000 in
theorem c0_isHeap (l : Launch) (D : va_G) (dA : Nat → ClassId) (o : Nat) (q : Nat → Nat) (σ : CS) (h : Int32) : gMi l D (wX0 dA o q) (tX0 dA) yX0_isHeap cX0_isHeap 2 (some .boolean) { frames := 0, cells := 0, slots := 0, locals := 0 } [.ref o, .int h] σ (fun r σ' => σ' = σ ∧ ((r = 1 ∧ 0 ≤ h ∧ h < σ 16 0) ∨ (r = 0 ∧ ¬ (0 ≤ h ∧ h < σ 16 0)))) := by
  intro sz
  refine gEnter (own := RX0) (lv := [(0, .ref o), (1, .int h)]) (wX0_g dA o q) (by decide) rfl (Nat.le_of_ble_eq_true rfl) rfl (fun p e s m below meth c ls S hA Y hl => ?_)
  have hx := S.1
  have hb := S.2.1
  refine lv_iload_n hx hb dX0_isHeap_0 rfl (lv_at hl 1 rfl) ?_
  refine lv_if_lt (tgt := 16) hx hb dX0_isHeap_1 (by decide) (fun c1 => ?_) (fun c1 => ?_)
  · skip
    refine lv_iconst (v := 0) hx hb dX0_isHeap_16 (by decide) ?_
    exact gIret S Y rfl (⟨rfl, Or.inr ⟨rfl, fun q => ge0.mp q.1 c1⟩⟩) dX0_isHeap_17
  · skip
    refine lv_iload_n hx hb dX0_isHeap_4 rfl (lv_at hl 1 rfl) ?_
    refine lv_aload_n hx hb dX0_isHeap_5 rfl (lv_at hl 0 rfl) ?_
    refine x0_g16 S Y dX0_isHeap_6 ?_
    refine lv_icmp_ge (tgt := 16) hx hb dX0_isHeap_9 (by decide) (fun c9 => ?_) (fun c9 => ?_)
    · skip
      refine lv_iconst (v := 0) hx hb dX0_isHeap_16 (by decide) ?_
      exact gIret S Y rfl (⟨rfl, Or.inr ⟨rfl, fun q => not_lt32.mpr c9 q.2⟩⟩) dX0_isHeap_17
    · skip
      refine lv_iconst (v := 1) hx hb dX0_isHeap_12 (by decide) ?_
      refine lv_goto (tgt := 17) hx hb dX0_isHeap_13 (by decide) ?_
      exact gIret S Y rfl (⟨rfl, Or.inl ⟨rfl, ge0.mpr c1, not_le32.mp c9⟩⟩) dX0_isHeap_17
set_option maxHeartbeats 4000000 in
set_option maxRecDepth 100000 in
theorem c0_isLive (l : Launch) (D : va_G) (dA : Nat → ClassId) (o : Nat) (q : Nat → Nat) (σ : CS) (x : Int32) : gMi l D (wX0 dA o q) (tX0 dA) yX0_isLive cX0_isLive 2 (some .boolean) { frames := 0, cells := 0, slots := 0, locals := 0 } [.ref o, .int x] σ (fun r σ' => σ' = σ ∧ ((r = 1 ∧ vp_in x 60 ∧ ¬ σ 4 x.toNatClampNeg = 0 ∧ σ 5 x.toNatClampNeg = 0) ∨ (r = 0 ∧ ¬ (vp_in x 60 ∧ ¬ σ 4 x.toNatClampNeg = 0 ∧ σ 5 x.toNatClampNeg = 0)))) := by
  intro sz
  refine gEnter (own := RX0) (lv := [(0, .ref o), (1, .int x)]) (wX0_g dA o q) (by decide) rfl (Nat.le_of_ble_eq_true rfl) rfl (fun p e s m below meth c ls S hA Y hl => ?_)
  have hx := S.1
  have hb := S.2.1
  refine lv_iload_n hx hb dX0_isLive_0 rfl (lv_at hl 1 rfl) ?_
  refine lv_if_lt (tgt := 32) hx hb dX0_isLive_1 (by decide) (fun c1 => ?_) (fun c1 => ?_)
  · skip
    refine lv_iconst (v := 0) hx hb dX0_isLive_32 (by decide) ?_
    exact gIret S Y rfl (⟨rfl, Or.inr ⟨rfl, fun q => vp_ge q.1 c1⟩⟩) dX0_isLive_33
  · skip
    refine lv_iload_n hx hb dX0_isLive_4 rfl (lv_at hl 1 rfl) ?_
    refine lv_bipush (v := 60) hx hb dX0_isLive_5 (by decide) ?_
    refine lv_icmp_ge (tgt := 32) hx hb dX0_isLive_7 (by decide) (fun c7 => ?_) (fun c7 => ?_)
    · skip
      refine lv_iconst (v := 0) hx hb dX0_isLive_32 (by decide) ?_
      exact gIret S Y rfl (⟨rfl, Or.inr ⟨rfl, fun q => vp60' q.1 c7⟩⟩) dX0_isLive_33
    · skip
      refine lv_aload_n hx hb dX0_isLive_10 rfl (lv_at hl 0 rfl) ?_
      refine x0_g4 S Y dX0_isLive_11 ?_
      refine lv_iload_n hx hb dX0_isLive_14 rfl (lv_at hl 1 rfl) ?_
      refine x0_l4 S Y (vp60 c1 c7) dX0_isLive_15 ?_
      refine lv_if_eq (tgt := 32) hx hb dX0_isLive_16 (by decide) (fun c16 => ?_) (fun c16 => ?_)
      · skip
        refine lv_iconst (v := 0) hx hb dX0_isLive_32 (by decide) ?_
        exact gIret S Y rfl (⟨rfl, Or.inr ⟨rfl, fun q => q.2.1 c16⟩⟩) dX0_isLive_33
      · skip
        refine lv_aload_n hx hb dX0_isLive_19 rfl (lv_at hl 0 rfl) ?_
        refine x0_g5 S Y dX0_isLive_20 ?_
        refine lv_iload_n hx hb dX0_isLive_23 rfl (lv_at hl 1 rfl) ?_
        refine x0_l5 S Y (vp60 c1 c7) dX0_isLive_24 ?_
        refine lv_if_ne (tgt := 32) hx hb dX0_isLive_25 (by decide) (fun c25 => ?_) (fun c25 => ?_)
        · skip
          refine lv_iconst (v := 0) hx hb dX0_isLive_32 (by decide) ?_
          exact gIret S Y rfl (⟨rfl, Or.inr ⟨rfl, fun q => c25 q.2.2⟩⟩) dX0_isLive_33
        · skip
          refine lv_iconst (v := 1) hx hb dX0_isLive_28 (by decide) ?_
          refine lv_goto (tgt := 33) hx hb dX0_isLive_29 (by decide) ?_
          exact gIret S Y rfl (⟨rfl, Or.inl ⟨rfl, vp60 c1 c7, c16, c25⟩⟩) dX0_isLive_33
set_option maxHeartbeats 4000000 in
set_option maxRecDepth 100000 in
theorem c0_release (l : Launch) (D : va_G) (dA : Nat → ClassId) (o : Nat) (q : Nat → Nat) (σ : CS) (x : Int32) (h_x : vp_in x 60) (h_f : vp_in (σ 15 0) 60) : gMv l D (wX0 dA o q) (tX0 dA) yX0_release cX0_release 2 none { frames := 0, cells := 0, slots := 0, locals := 0 } [.ref o, .int x] σ (fun σ' => σ' = rel0 x σ) := by
  intro sz
  refine gEnter (own := RX0) (lv := [(0, .ref o), (1, .int x)]) (wX0_g dA o q) (by decide) rfl (Nat.le_of_ble_eq_true rfl) rfl (fun p e s m below meth c ls S hA Y hl => ?_)
  have hx := S.1
  have hb := S.2.1
  refine lv_aload_n hx hb dX0_release_0 rfl (lv_at hl 0 rfl) ?_
  refine x0_g4 S Y dX0_release_1 ?_
  refine lv_iload_n hx hb dX0_release_4 rfl (lv_at hl 1 rfl) ?_
  refine lv_iconst (v := 0) hx hb dX0_release_5 (by decide) ?_
  refine x0_s4 S Y h_x dX0_release_6 (fun t1 H locs e_t1 Y => ?_)
  refine lv_aload_n hx hb dX0_release_7 rfl (lv_at hl 0 rfl) ?_
  refine x0_g12 S Y dX0_release_8 ?_
  refine lv_aload_n hx hb dX0_release_11 rfl (lv_at hl 0 rfl) ?_
  refine x0_g15 S Y dX0_release_12 ?_
  refine lv_iload_n hx hb dX0_release_15 rfl (lv_at hl 1 rfl) ?_
  refine x0_s12 S Y (by rw [e_t1]; exact h_f) dX0_release_16 (fun t2 H locs e_t2 Y => ?_)
  refine lv_aload_n hx hb dX0_release_17 rfl (lv_at hl 0 rfl) ?_
  refine lv_dup hx hb dX0_release_18 rfl ?_
  refine x0_g15 S Y dX0_release_19 ?_
  refine lv_iconst (v := 1) hx hb dX0_release_22 (by decide) ?_
  refine lv_iadd hx hb dX0_release_23 ?_
  refine x0_p15 S Y dX0_release_24 (fun t3 H locs e_t3 Y => ?_)
  exact gVret S Y (by rw [e_t3, e_t2, e_t1, bz0]; rfl) dX0_release_27
set_option maxHeartbeats 4000000 in
set_option maxRecDepth 100000 in
theorem c0_newToken (l : Launch) (D : va_G) (dA : Nat → ClassId) (o : Nat) (q : Nat → Nat) (σ : CS) (h : Int32) (h_h : vp_in h 10) (h_t : vp_in (σ 17 0) 1100) : gMv l D (wX0 dA o q) (tX0 dA) yX0_newToken cX0_newToken 2 none { frames := 0, cells := 0, slots := 0, locals := 0 } [.ref o, .int h] σ (fun σ' => σ' = ntok h σ) := by
  intro sz
  refine gEnter (own := RX0) (lv := [(0, .ref o), (1, .int h)]) (wX0_g dA o q) (by decide) rfl (Nat.le_of_ble_eq_true rfl) rfl (fun p e s m below meth c ls S hA Y hl => ?_)
  have hx := S.1
  have hb := S.2.1
  refine lv_aload_n hx hb dX0_newToken_0 rfl (lv_at hl 0 rfl) ?_
  refine x0_g11 S Y dX0_newToken_1 ?_
  refine lv_iload_n hx hb dX0_newToken_4 rfl (lv_at hl 1 rfl) ?_
  refine lv_aload_n hx hb dX0_newToken_5 rfl (lv_at hl 0 rfl) ?_
  refine x0_g17 S Y dX0_newToken_6 ?_
  refine x0_s11 S Y h_h dX0_newToken_9 (fun t1 H locs e_t1 Y => ?_)
  refine lv_aload_n hx hb dX0_newToken_10 rfl (lv_at hl 0 rfl) ?_
  refine x0_g9 S Y dX0_newToken_11 ?_
  refine lv_aload_n hx hb dX0_newToken_14 rfl (lv_at hl 0 rfl) ?_
  refine x0_g17 S Y dX0_newToken_15 ?_
  refine lv_aload_n hx hb dX0_newToken_18 rfl (lv_at hl 0 rfl) ?_
  refine x0_g17 S Y dX0_newToken_19 ?_
  refine x0_s9 S Y (by rw [e_t1]; exact h_t) dX0_newToken_22 (fun t2 H locs e_t2 Y => ?_)
  refine lv_aload_n hx hb dX0_newToken_23 rfl (lv_at hl 0 rfl) ?_
  refine x0_g10 S Y dX0_newToken_24 ?_
  refine lv_aload_n hx hb dX0_newToken_27 rfl (lv_at hl 0 rfl) ?_
  refine x0_g17 S Y dX0_newToken_28 ?_
  refine lv_iload_n hx hb dX0_newToken_31 rfl (lv_at hl 1 rfl) ?_
  refine x0_s10 S Y (by rw [e_t2, e_t1]; exact h_t) dX0_newToken_32 (fun t3 H locs e_t3 Y => ?_)
  refine lv_aload_n hx hb dX0_newToken_33 rfl (lv_at hl 0 rfl) ?_
  refine lv_dup hx hb dX0_newToken_34 rfl ?_
  refine x0_g17 S Y dX0_newToken_35 ?_
  refine lv_iconst (v := 1) hx hb dX0_newToken_38 (by decide) ?_
  refine lv_iadd hx hb dX0_newToken_39 ?_
  refine x0_p17 S Y dX0_newToken_40 (fun t4 H locs e_t4 Y => ?_)
  exact gVret S Y (by rw [e_t4, e_t3, e_t2, e_t1]; rfl) dX0_newToken_43
set_option maxHeartbeats 4000000 in
set_option maxRecDepth 100000 in
theorem c0_newHeap (l : Launch) (D : va_G) (dA : Nat → ClassId) (o : Nat) (q : Nat → Nat) (σ : CS) (h_h : σ 16 0 = 10 ∨ vp_in (σ 16 0) 10) (h_t : vp_in (σ 17 0) 1100) : gMi l D (wX0 dA o q) (tX0 dA) yX0_newHeap cX0_newHeap 1 (some .int) { frames := 1, cells := 0, slots := 0, locals := 21 } [.ref o] σ (fun r σ' => (σ 16 0 = 10 ∧ r = -1 ∧ σ' = σ) ∨ (¬ σ 16 0 = 10 ∧ r = σ 16 0 ∧ σ' = nhp0 σ)) := by
  intro sz
  refine gEnter (own := RX0) (lv := [(0, .ref o)]) (wX0_g dA o q) (by decide) rfl (Nat.le_of_ble_eq_true rfl) rfl (fun p e s m below meth c ls S hA Y hl => ?_)
  have hx := S.1
  have hb := S.2.1
  refine lv_aload_n hx hb dX0_newHeap_0 rfl (lv_at hl 0 rfl) ?_
  refine x0_g16 S Y dX0_newHeap_1 ?_
  refine lv_bipush (v := 10) hx hb dX0_newHeap_4 (by decide) ?_
  refine lv_icmp_ne (tgt := 11) hx hb dX0_newHeap_6 (by decide) (fun c6 => ?_) (fun c6 => ?_)
  · skip
    have h_i : vp_in (σ 16 0) 10 := h_h.resolve_left c6
    refine lv_aload_n hx hb dX0_newHeap_11 rfl (lv_at hl 0 rfl) ?_
    refine x0_g6 S Y dX0_newHeap_12 ?_
    refine lv_aload_n hx hb dX0_newHeap_15 rfl (lv_at hl 0 rfl) ?_
    refine x0_g16 S Y dX0_newHeap_16 ?_
    refine lv_iconst (v := (-1)) hx hb dX0_newHeap_19 (by decide) ?_
    refine x0_s6 S Y h_i dX0_newHeap_20 (fun t1 H locs e_t1 Y => ?_)
    refine lv_aload_n hx hb dX0_newHeap_21 rfl (lv_at hl 0 rfl) ?_
    refine x0_g7 S Y dX0_newHeap_22 ?_
    refine lv_aload_n hx hb dX0_newHeap_25 rfl (lv_at hl 0 rfl) ?_
    refine x0_g16 S Y dX0_newHeap_26 ?_
    refine lv_iconst (v := 0) hx hb dX0_newHeap_29 (by decide) ?_
    refine x0_s7 S Y (by rw [e_t1]; exact h_i) dX0_newHeap_30 (fun t2 H locs e_t2 Y => ?_)
    refine lv_aload_n hx hb dX0_newHeap_31 rfl (lv_at hl 0 rfl) ?_
    refine lv_aload_n hx hb dX0_newHeap_32 rfl (lv_at hl 0 rfl) ?_
    refine x0_g16 S Y dX0_newHeap_33 ?_
    refine gCallV (ci := 0) (As := [.int (t2 16 0)]) (rest := []) S (wX0_g dA o q) Y hA (c0_newToken l D dA o q t2 (t2 16 0) (by rw [e_t2, e_t1]; exact h_i) (by rw [e_t2, e_t1]; exact h_t)) (cwV 1 S.2.2.2.2.1 (lw_V q101 q103 qs0 q25 q104) rfl rfl rfl (by decide +kernel) ⟨Nat.le_of_ble_eq_true rfl, Nat.le_of_ble_eq_true rfl⟩) rfl rfl rfl rfl hl.1 rfl (Nat.le_of_ble_eq_true rfl) dX0_newHeap_36 ⟨Nat.le_refl _, Nat.le_refl _⟩ (fun t3 H locs h_t3 Y => ?_)
    refine lv_aload_n hx hb dX0_newHeap_39 rfl (lv_at hl 0 rfl) ?_
    refine lv_dup hx hb dX0_newHeap_40 rfl ?_
    refine x0_g16 S Y dX0_newHeap_41 ?_
    refine lv_dup_x1 hx hb dX0_newHeap_44 rfl rfl ?_
    refine lv_iconst (v := 1) hx hb dX0_newHeap_45 (by decide) ?_
    refine lv_iadd hx hb dX0_newHeap_46 ?_
    refine x0_p16 S Y dX0_newHeap_47 (fun t4 H locs e_t4 Y => ?_)
    exact gIret S Y rfl (Or.inr ⟨c6, by rw [h_t3, e_t2, e_t1]; rfl, by rw [e_t4, h_t3, e_t2, e_t1]; rfl⟩) dX0_newHeap_50
  · skip
    refine lv_iconst (v := (-1)) hx hb dX0_newHeap_9 (by decide) ?_
    exact gIret S Y rfl (Or.inl ⟨c6, rfl, rfl⟩) dX0_newHeap_10
set_option maxHeartbeats 4000000 in
set_option maxRecDepth 100000 in
theorem c0_cellsFree (l : Launch) (D : va_G) (dA : Nat → ClassId) (o : Nat) (q : Nat → Nat) (σ : CS)  : gMi l D (wX0 dA o q) (tX0 dA) yX0_cellsFree cX0_cellsFree 1 (some .int) { frames := 0, cells := 0, slots := 0, locals := 0 } [.ref o] σ (fun r σ' => σ' = σ ∧ r = σ 15 0) := by
  intro sz
  refine gEnter (own := RX0) (lv := [(0, .ref o)]) (wX0_g dA o q) (by decide) rfl (Nat.le_of_ble_eq_true rfl) rfl (fun p e s m below meth c ls S hA Y hl => ?_)
  have hx := S.1
  have hb := S.2.1
  refine lv_aload_n hx hb dX0_cellsFree_0 rfl (lv_at hl 0 rfl) ?_
  refine x0_g15 S Y dX0_cellsFree_1 ?_
  exact gIret S Y rfl (⟨rfl, rfl⟩) dX0_cellsFree_4
end
section
theorem up1_no {c x : Int32} {β : CS} (h : rk (β 3) x ≤ rk (β 3) (β 1 c.toNatClampNeg)) : up1 c x β = va_up (va_up β 2 (upd (β 2) c.toNatClampNeg x)) 3 (upd (β 3) c.toNatClampNeg (rk (β 3) x + 1)) := by rw [up1, if_neg (not_lt32.mpr h)]
theorem up1_yes {c x : Int32} {β : CS} (h : ¬ rk (β 3) x ≤ rk (β 3) (β 1 c.toNatClampNeg)) : up1 c x β = va_up (va_up (va_up β 1 (upd (β 1) c.toNatClampNeg x)) 2 (upd (β 2) c.toNatClampNeg (β 1 c.toNatClampNeg))) 3 (upd (β 3) c.toNatClampNeg (rk (β 3) (β 1 c.toNatClampNeg) + 1)) := by rw [up1, if_pos (not_le32.mp h)]
theorem Ac_up {α α' σ σ' : CS} (h : Ac α σ) (hE : Ex [1, 2, 3, 13] σ σ') (hα : ∀ k, k ≠ 1 → k ≠ 2 → k ≠ 3 → α' k = α k) (e1 : σ' 1 = α' 1) (e2 : σ' 2 = α' 2) (e3 : σ' 3 = α' 3) : Ac α' σ' := by
  obtain ⟨a0, -, -, -, a4, a5, a6, a7, a8⟩ := h
  have b4 : α' 4 = α 4 := hα 4 (by decide) (by decide) (by decide)
  have c4 : σ' 4 = σ 4 := hE 4 (by decide)
  have c5 : σ' 5 = σ 5 := hE 5 (by decide)
  refine ⟨?_, e1, e2, e3, ?_, ?_, ?_, ?_, ?_⟩
  · rw [hE 0 (by decide), hα 0 (by decide) (by decide) (by decide)]; exact a0
  · rw [b4, c4, c5]; exact a4
  · rw [hE 12 (by decide), hα 5 (by decide) (by decide) (by decide)]; exact a5
  · rw [hE 15 (by decide), hα 6 (by decide) (by decide) (by decide)]; exact a6
  · rw [hE 6 (by decide), hα 7 (by decide) (by decide) (by decide)]; exact a7
  · rw [hE 16 (by decide), hα 8 (by decide) (by decide) (by decide)]; exact a8
theorem Ko_ex {σ σ' : CS} {ks : List Nat} (h : Ex ks σ σ') (hk : 7 ∉ ks ∧ 8 ∉ ks ∧ 9 ∉ ks ∧ 10 ∉ ks ∧ 11 ∉ ks ∧ 17 ∉ ks) : Ko σ σ' := ⟨h 7 hk.1, h 8 hk.2.1, h 9 hk.2.2.1, h 10 hk.2.2.2.1, h 11 hk.2.2.2.2.1, h 17 hk.2.2.2.2.2⟩
theorem am1 (x : Int32) : x + (-1) = x - 1 := (Int32.sub_eq_add_neg x 1).symm
end
section
set_option maxHeartbeats 4000000 in
set_option maxRecDepth 100000 in
/-- LeftistHeaps.meldTops, the way down -/
theorem x0_dn {p : Program} {l : Launch} {e : Env} {s : State} {m : MethodId} {args : Array Value} {below : List Frame} {meth : Method} {c : Code} {Q : State → Prop} {D : va_G} {dA : Nat → ClassId} {o : Nat} {q : Nat → Nat} {A : Nat → Prop} {H0 : Heap} {σ0 : CS} {bl : Int32} {F : List Int32} (S : gS p s m meth c cX0_meldTops 9 args RX0 (some .int) D (tX0 dA)) (hA : ∀ q, H0.size ≤ q → A q) (hB2 : Bd (σ0 2)) (hlen : F.length ≤ 60) (kk : ∀ (σ : CS) (a b : Int32) (H : Heap) (locs : List Loc) (ls : Array Slot), Hl (σ 13) F → Ex [13] σ0 σ → bl = (if a < 0 then b else a) → gP D (wX0 dA o q) A H0 σ H locs → lv_has ls 9 [(0, .ref o), (3, .int a), (4, .int b), (5, .int (nI F.length))] → W p l e { frames := 1, cells := 0, slots := 0, locals := 22 } s m args below meth c H locs 0 0 Q (F0 m 78 ls [])) : ∀ (st dn : List Int32) (a b : Int32) (σ : CS) (H : Heap) (locs : List Loc) (ls : Array Slot), dn ++ st = F → Dn (σ0 0) (σ0 2) st a b bl → Hl (σ 13) dn → Pt a → Pt b → Ex [13] σ0 σ → gP D (wX0 dA o q) A H0 σ H locs → lv_has ls 9 [(0, .ref o), (3, .int a), (4, .int b), (5, .int (nI dn.length))] → W p l e { frames := 1, cells := 0, slots := 0, locals := 22 } s m args below meth c H locs 0 0 Q (F0 m 8 ls []) := by
  have hx := S.1
  have hb := S.2.1
  intro st
  induction st with
  | nil =>
    intro dn a b σ H locs ls hF hd h13 h_pa h_pb hE Y hl
    rw [List.append_nil] at hF
    subst hF
    refine lv_iload_n hx hb dX0_meldTops_8 rfl (lv_at hl 1 rfl) ?_
    refine lv_if_lt (tgt := 78) hx hb dX0_meldTops_9 (by decide) (fun c9 => ?_) (fun c9 => ?_)
    · skip
      exact kk σ a b H locs ls h13 hE hd.2 Y hl
    · skip
      refine lv_iload hx hb dX0_meldTops_12 (lv_at hl 2 rfl) ?_
      refine lv_if_lt (tgt := 78) hx hb dX0_meldTops_14 (by decide) (fun c14 => ?_) (fun c14 => ?_)
      · skip
        exact kk σ a b H locs ls h13 hE hd.2 Y hl
      · skip
        exact absurd hd.1 (fun q => q.elim c9 c14)
  | cons x st ih =>
    intro dn a b σ H locs ls hF hd h13 h_pa h_pb hE Y hl
    have hk : dn.length < 60 := by have := congrArg List.length hF; rw [List.length_append, List.length_cons] at this; omega
    have h_n : vp_in (nI dn.length) 130 := vp_in_nI (by omega) (by decide)
    have h0 : σ 0 = σ0 0 := hE 0 (by decide)
    have h2 : σ 2 = σ0 2 := hE 2 (by decide)
    refine lv_iload_n hx hb dX0_meldTops_8 rfl (lv_at hl 1 rfl) ?_
    refine lv_if_lt (tgt := 78) hx hb dX0_meldTops_9 (by decide) (fun c9 => ?_) (fun c9 => ?_)
    · skip
      exact absurd c9 hd.1
    · skip
      refine lv_iload hx hb dX0_meldTops_12 (lv_at hl 2 rfl) ?_
      refine lv_if_lt (tgt := 78) hx hb dX0_meldTops_14 (by decide) (fun c14 => ?_) (fun c14 => ?_)
      · skip
        exact absurd c14 hd.2.1
      · skip
        have h_a := Pt_in h_pa c9
        have h_b := Pt_in h_pb c14
        refine lv_aload_n hx hb dX0_meldTops_17 rfl (lv_at hl 0 rfl) ?_
        refine lv_iload_n hx hb dX0_meldTops_18 rfl (lv_at hl 1 rfl) ?_
        refine lv_iload hx hb dX0_meldTops_19 (lv_at hl 2 rfl) ?_
        refine gCallI (ci := 0) (As := [.int a, .int b]) (rest := []) S (wX0_g dA o q) Y hA (c0_isBefore l D dA o q σ a b h_a h_b) (cwV 2 S.2.2.2.2.1 (lw_V q133 q135 qs7 q25 q136) rfl rfl rfl (by decide +kernel) ⟨Nat.le_of_ble_eq_true rfl, Nat.le_of_ble_eq_true rfl⟩) rfl rfl rfl rfl hl.1 rfl (Nat.le_of_ble_eq_true rfl) dX0_meldTops_21 ⟨Nat.le_refl _, Nat.le_refl _⟩ (fun r1 t1 H locs h_t1 Y => ?_)
        rw [h_t1.1] at Y
        refine lv_istore (lv' := [(6, .int r1), (0, .ref o), (3, .int a), (4, .int b), (5, .int (nI dn.length))]) hx hb dX0_meldTops_24 hl (by decide) rfl (fun ls hl => ?_)
        refine lv_iload hx hb dX0_meldTops_26 (lv_at hl 0 rfl) ?_
        refine lv_if_eq (tgt := 35) hx hb dX0_meldTops_28 (by decide) (fun c28 => ?_) (fun c28 => ?_)
        · skip
          obtain ⟨e_x, hd'⟩ := Dn_f hd (by rw [← h0]; rcases h_t1.2 with ⟨e, -⟩ | ⟨-, h⟩; exact absurd (e.symm.trans c28) (by decide); exact h)
          refine lv_iload hx hb dX0_meldTops_35 (lv_at hl 3 rfl) ?_
          refine lv_istore (lv' := [(7, .int b), (6, .int r1), (0, .ref o), (3, .int a), (4, .int b), (5, .int (nI dn.length))]) hx hb dX0_meldTops_37 hl (by decide) rfl (fun ls hl => ?_)
          refine lv_aload_n hx hb dX0_meldTops_39 rfl (lv_at hl 2 rfl) ?_
          refine x0_g13 S Y dX0_meldTops_40 ?_
          refine lv_iload hx hb dX0_meldTops_43 (lv_at hl 5 rfl) ?_
          refine lv_iload hx hb dX0_meldTops_45 (lv_at hl 0 rfl) ?_
          refine x0_s13 S Y h_n dX0_meldTops_47 (fun t2 H locs e_t2 Y => ?_)
          refine lv_iinc (v := nI (dn ++ [x]).length) (lv' := [(5, .int (nI (dn ++ [x]).length)), (7, .int b), (6, .int r1), (0, .ref o), (3, .int a), (4, .int b)]) hx hb dX0_meldTops_48 hl (k := 5) rfl (by rw [List.length_append, List.length_singleton]; exact nI_1 _) (by decide) rfl (fun ls hl => ?_)
          refine lv_iload hx hb dX0_meldTops_51 (lv_at hl 2 rfl) ?_
          refine lv_if_eq (tgt := 66) hx hb dX0_meldTops_53 (by decide) (fun c53 => ?_) (fun c53 => ?_)
          · skip
            refine lv_aload_n hx hb dX0_meldTops_66 rfl (lv_at hl 3 rfl) ?_
            refine x0_g2 S Y dX0_meldTops_67 ?_
            refine lv_iload hx hb dX0_meldTops_70 (lv_at hl 5 rfl) ?_
            refine x0_l2 S Y h_b dX0_meldTops_72 ?_
            refine lv_istore (lv' := [(4, .int (t2 2 b.toNatClampNeg)), (5, .int (nI (dn ++ [x]).length)), (7, .int b), (6, .int r1), (0, .ref o), (3, .int a)]) hx hb dX0_meldTops_73 hl (by decide) rfl (fun ls hl => ?_)
            refine lv_goto (tgt := 8) hx hb dX0_meldTops_75 (by decide) ?_
            exact ih (dn ++ [x]) a (t2 2 b.toNatClampNeg) t2 H locs ls (by rw [List.append_assoc]; exact hF) (by rw [e_t2]; show Dn _ _ _ _ (σ 2 _) _; rw [h2]; exact hd') (by rw [e_t2, e_x]; show Hl (upd (σ 13) (nI dn.length).toNatClampNeg b) _; rw [nI_clamp (by omega)]; exact Hl_push h13 _) h_pa (by rw [e_t2]; show Pt (σ 2 _); rw [h2]; exact Bd_at hB2 h_b) (Ex_tr hE (by rw [e_t2]; exact Ex_up (by decide))) Y (lv_sub hl [4, 5, 0, 1] rfl)
          · skip
            exact absurd c28 c53
        · skip
          obtain ⟨e_x, hd'⟩ := Dn_t hd (by rw [← h0]; rcases h_t1.2 with ⟨-, h⟩ | ⟨e, -⟩; exact h; exact absurd e c28)
          refine lv_iload_n hx hb dX0_meldTops_31 rfl (lv_at hl 2 rfl) ?_
          refine lv_goto (tgt := 37) hx hb dX0_meldTops_32 (by decide) ?_
          refine lv_istore (lv' := [(7, .int a), (6, .int r1), (0, .ref o), (3, .int a), (4, .int b), (5, .int (nI dn.length))]) hx hb dX0_meldTops_37 hl (by decide) rfl (fun ls hl => ?_)
          refine lv_aload_n hx hb dX0_meldTops_39 rfl (lv_at hl 2 rfl) ?_
          refine x0_g13 S Y dX0_meldTops_40 ?_
          refine lv_iload hx hb dX0_meldTops_43 (lv_at hl 5 rfl) ?_
          refine lv_iload hx hb dX0_meldTops_45 (lv_at hl 0 rfl) ?_
          refine x0_s13 S Y h_n dX0_meldTops_47 (fun t2 H locs e_t2 Y => ?_)
          refine lv_iinc (v := nI (dn ++ [x]).length) (lv' := [(5, .int (nI (dn ++ [x]).length)), (7, .int a), (6, .int r1), (0, .ref o), (3, .int a), (4, .int b)]) hx hb dX0_meldTops_48 hl (k := 5) rfl (by rw [List.length_append, List.length_singleton]; exact nI_1 _) (by decide) rfl (fun ls hl => ?_)
          refine lv_iload hx hb dX0_meldTops_51 (lv_at hl 2 rfl) ?_
          refine lv_if_eq (tgt := 66) hx hb dX0_meldTops_53 (by decide) (fun c53 => ?_) (fun c53 => ?_)
          · skip
            exact absurd c53 c28
          · skip
            refine lv_aload_n hx hb dX0_meldTops_56 rfl (lv_at hl 3 rfl) ?_
            refine x0_g2 S Y dX0_meldTops_57 ?_
            refine lv_iload_n hx hb dX0_meldTops_60 rfl (lv_at hl 4 rfl) ?_
            refine x0_l2 S Y h_a dX0_meldTops_61 ?_
            refine lv_istore_n (lv' := [(3, .int (t2 2 a.toNatClampNeg)), (5, .int (nI (dn ++ [x]).length)), (7, .int a), (6, .int r1), (0, .ref o), (4, .int b)]) hx hb dX0_meldTops_62 rfl hl (by decide) rfl (fun ls hl => ?_)
            refine lv_goto (tgt := 75) hx hb dX0_meldTops_63 (by decide) ?_
            refine lv_goto (tgt := 8) hx hb dX0_meldTops_75 (by decide) ?_
            exact ih (dn ++ [x]) (t2 2 a.toNatClampNeg) b t2 H locs ls (by rw [List.append_assoc]; exact hF) (by rw [e_t2]; show Dn _ _ _ (σ 2 _) _ _; rw [h2]; exact hd') (by rw [e_t2, e_x]; show Hl (upd (σ 13) (nI dn.length).toNatClampNeg a) _; rw [nI_clamp (by omega)]; exact Hl_push h13 _) (by rw [e_t2]; show Pt (σ 2 _); rw [h2]; exact Bd_at hB2 h_a) h_pb (Ex_tr hE (by rw [e_t2]; exact Ex_up (by decide))) Y (lv_sub hl [4, 0, 5, 1] rfl)
set_option maxHeartbeats 4000000 in
set_option maxRecDepth 100000 in
/-- LeftistHeaps.meldTops, the way up -/
theorem x0_up {p : Program} {l : Launch} {e : Env} {s : State} {m : MethodId} {args : Array Value} {below : List Frame} {meth : Method} {c : Code} {Q : State → Prop} {D : va_G} {dA : Nat → ClassId} {o : Nat} {q : Nat → Nat} {A : Nat → Prop} {H0 : Heap} {σ0 α : CS} {bl : Int32} {F : List Int32} (S : gS p s m meth c cX0_meldTops 9 args RX0 (some .int) D (tX0 dA)) (hA : ∀ q, H0.size ≤ q → A q) (h_F : ∀ c ∈ F, vp_in c 60) (hlen : F.length ≤ 60) (h_bl : Pt bl) (hB1 : Bd (α 1)) (hB2 : Bd (α 2)) (kk : ∀ (σ : CS) (H : Heap) (locs : List Loc) (ls : Array Slot), σ 1 = (upA F bl α).2 1 → σ 2 = (upA F bl α).2 2 → σ 3 = (upA F bl α).2 3 → Ex [1, 2, 3, 13] σ0 σ → gP D (wX0 dA o q) A H0 σ H locs → lv_has ls 9 [(0, .ref o), (6, .int (upA F bl α).1)] → W p l e { frames := 1, cells := 0, slots := 0, locals := 22 } s m args below meth c H locs 0 0 Q (F0 m 197 ls [])) : ∀ (rp suf : List Int32) (x7 x6 : Int32) (σ : CS) (H : Heap) (locs : List Loc) (ls : Array Slot), rp.reverse ++ suf = F → x7 = nI rp.length - 1 → x6 = (upA suf bl α).1 → σ 1 = (upA suf bl α).2 1 → σ 2 = (upA suf bl α).2 2 → σ 3 = (upA suf bl α).2 3 → Hl (σ 13) F → Ex [1, 2, 3, 13] σ0 σ → gP D (wX0 dA o q) A H0 σ H locs → lv_has ls 9 [(0, .ref o), (6, .int x6), (7, .int x7)] → W p l e { frames := 1, cells := 0, slots := 0, locals := 22 } s m args below meth c H locs 0 0 Q (F0 m 96 ls []) := by
  have hx := S.1
  have hb := S.2.1
  intro rp
  induction rp with
  | nil =>
    intro suf x7 x6 σ H locs ls hF e7 e6 e1 e2 e3 h13 hE Y hl
    have hF : suf = F := hF
    rw [hF] at e6 e1 e2 e3
    refine lv_iload hx hb dX0_meldTops_96 (lv_at hl 2 rfl) ?_
    refine lv_if_lt (tgt := 197) hx hb dX0_meldTops_98 (by decide) (fun c98 => ?_) (fun c98 => ?_)
    · skip
      exact kk σ H locs ls e1 e2 e3 hE Y (by rw [← e6]; exact (lv_sub hl [0, 1] rfl))
    · skip
      exact absurd (by rw [e7]; exact (by decide +kernel : nI 0 - 1 < 0)) c98
  | cons x rp ih =>
    intro suf x7 x6 σ H locs ls hF e7 e6 e1 e2 e3 h13 hE Y hl
    have hF' : rp.reverse ++ (x :: suf) = F := by rw [← hF, List.reverse_cons, List.append_assoc]; rfl
    have e7' : x7 = nI rp.length := e7.trans (nI_pred rp.length)
    have hk : rp.length < 60 := by have := congrArg List.length hF'; rw [List.length_append, List.length_cons, List.length_reverse] at this; omega
    have h_x : vp_in x 60 := h_F x (by rw [← hF']; exact List.mem_append_right _ List.mem_cons_self)
    have h_13 : σ 13 rp.length = x := by have h9 := Hl_mid (a := rp.reverse) (b := suf) (c := x) (by rw [hF']; exact h13); rw [List.length_reverse] at h9; exact h9
    have h_k : vp_in x7 130 := by rw [e7']; exact vp_in_nI (by omega) (by decide)
    have h_s : ∀ c ∈ suf, vp_in c 60 := fun c h => h_F c (by rw [← hF']; exact List.mem_append_right _ (List.mem_cons_of_mem _ h))
    obtain ⟨h_6, hb1, hb2⟩ := upA_Bd h_bl hB1 hB2 suf h_s
    obtain ⟨β, hβ⟩ : ∃ β, β = (upA suf bl α).2 := ⟨_, rfl⟩
    rw [← hβ] at e1 e2 e3 hb1 hb2
    rw [← e6] at h_6
    have hU : upA (x :: suf) bl α = (x, up1 x x6 β) := by rw [e6, hβ]; rfl
    refine lv_iload hx hb dX0_meldTops_96 (lv_at hl 2 rfl) ?_
    refine lv_if_lt (tgt := 197) hx hb dX0_meldTops_98 (by decide) (fun c98 => ?_) (fun c98 => ?_)
    · skip
      exact absurd c98 (by rw [e7']; exact nI_pos (by omega))
    · skip
      refine lv_aload_n hx hb dX0_meldTops_101 rfl (lv_at hl 0 rfl) ?_
      refine x0_g13 S Y dX0_meldTops_102 ?_
      refine lv_iload hx hb dX0_meldTops_105 (lv_at hl 2 rfl) ?_
      refine x0_l13 S Y h_k dX0_meldTops_107 ?_
      refine lv_topi (fun v8 e_v8 => ?_)
      have e9 : x = v8 := by rw [e_v8, e7', nI_clamp (by omega), h_13]
      subst e9
      refine lv_istore (lv' := [(8, .int x), (0, .ref o), (6, .int x6), (7, .int x7)]) hx hb dX0_meldTops_108 hl (by decide) rfl (fun ls hl => ?_)
      refine lv_aload_n hx hb dX0_meldTops_110 rfl (lv_at hl 1 rfl) ?_
      refine x0_g2 S Y dX0_meldTops_111 ?_
      refine lv_iload hx hb dX0_meldTops_114 (lv_at hl 0 rfl) ?_
      refine lv_iload hx hb dX0_meldTops_116 (lv_at hl 2 rfl) ?_
      refine x0_s2 S Y h_x dX0_meldTops_118 (fun t1 H locs e_t1 Y => ?_)
      refine lv_aload_n hx hb dX0_meldTops_119 rfl (lv_at hl 1 rfl) ?_
      refine lv_aload_n hx hb dX0_meldTops_120 rfl (lv_at hl 1 rfl) ?_
      refine x0_g2 S Y dX0_meldTops_121 ?_
      refine lv_iload hx hb dX0_meldTops_124 (lv_at hl 0 rfl) ?_
      refine x0_l2 S Y h_x dX0_meldTops_126 ?_
      refine lv_topi (fun v2 e_v2 => ?_)
      have e9 : x6 = v2 := by rw [e_v2, e_t1]; exact pk_us.symm
      subst e9
      refine gCallI (ci := 0) (As := [.int x6]) (rest := []) S (wX0_g dA o q) Y hA (c0_rankOf l D dA o q t1 x6 h_6) (cwV 1 S.2.2.2.2.1 (lw_V q137 q139 qs8 q25 q140) rfl rfl rfl (by decide +kernel) ⟨Nat.le_of_ble_eq_true rfl, Nat.le_of_ble_eq_true rfl⟩) rfl rfl rfl rfl hl.1 rfl (Nat.le_of_ble_eq_true rfl) dX0_meldTops_127 ⟨Nat.le_refl _, Nat.le_refl _⟩ (fun r1 s1 H locs h_s1 Y => ?_)
      rw [h_s1.1] at Y
      refine lv_aload_n hx hb dX0_meldTops_130 rfl (lv_at hl 1 rfl) ?_
      refine lv_aload_n hx hb dX0_meldTops_131 rfl (lv_at hl 1 rfl) ?_
      refine x0_g1 S Y dX0_meldTops_132 ?_
      refine lv_iload hx hb dX0_meldTops_135 (lv_at hl 0 rfl) ?_
      refine x0_l1 S Y h_x dX0_meldTops_137 ?_
      refine gCallI (ci := 0) (As := [.int (t1 1 x.toNatClampNeg)]) (rest := [.int r1]) S (wX0_g dA o q) Y hA (c0_rankOf l D dA o q t1 (t1 1 x.toNatClampNeg) (by rw [e_t1]; show Pt (σ 1 _); rw [e1]; exact Bd_at hb1 h_x)) (cwV 1 S.2.2.2.2.1 (lw_V q137 q139 qs8 q25 q140) rfl rfl rfl (by decide +kernel) ⟨Nat.le_of_ble_eq_true rfl, Nat.le_of_ble_eq_true rfl⟩) rfl rfl rfl rfl hl.1 rfl (Nat.le_of_ble_eq_true rfl) dX0_meldTops_138 ⟨Nat.le_refl _, Nat.le_refl _⟩ (fun r2 s2 H locs h_s2 Y => ?_)
      rw [h_s2.1] at Y
      refine lv_icmp_le (tgt := 167) hx hb dX0_meldTops_141 (by decide) (fun c141 => ?_) (fun c141 => ?_)
      · skip
        have hup := up1_no (c := x) (x := x6) (β := β) (by rw [← e3, ← e1]; have h1 := h_s1.2; have h2 := h_s2.2; rw [e_t1] at h1 h2; rw [h1, h2] at c141; exact c141)
        refine lv_aload_n hx hb dX0_meldTops_167 rfl (lv_at hl 1 rfl) ?_
        refine x0_g3 S Y dX0_meldTops_168 ?_
        refine lv_iload hx hb dX0_meldTops_171 (lv_at hl 0 rfl) ?_
        refine lv_aload_n hx hb dX0_meldTops_173 rfl (lv_at hl 1 rfl) ?_
        refine lv_aload_n hx hb dX0_meldTops_174 rfl (lv_at hl 1 rfl) ?_
        refine x0_g2 S Y dX0_meldTops_175 ?_
        refine lv_iload hx hb dX0_meldTops_178 (lv_at hl 0 rfl) ?_
        refine x0_l2 S Y h_x dX0_meldTops_180 ?_
        refine lv_topi (fun v3 e_v3 => ?_)
        have e9 : x6 = v3 := by rw [e_v3, e_t1]; exact pk_us.symm
        subst e9
        refine gCallI (ci := 0) (As := [.int x6]) (rest := [.int x, .ref (q 3)]) S (wX0_g dA o q) Y hA (c0_rankOf l D dA o q t1 x6 h_6) (cwV 1 S.2.2.2.2.1 (lw_V q137 q139 qs8 q25 q140) rfl rfl rfl (by decide +kernel) ⟨Nat.le_of_ble_eq_true rfl, Nat.le_of_ble_eq_true rfl⟩) rfl rfl rfl rfl hl.1 rfl (Nat.le_of_ble_eq_true rfl) dX0_meldTops_181 ⟨Nat.le_refl _, Nat.le_refl _⟩ (fun r3 s3 H locs h_s3 Y => ?_)
        rw [h_s3.1] at Y
        refine lv_iconst (v := 1) hx hb dX0_meldTops_184 (by decide) ?_
        refine lv_iadd hx hb dX0_meldTops_185 ?_
        refine x0_s3 S Y h_x dX0_meldTops_186 (fun t2 H locs e_t2 Y => ?_)
        refine lv_iload hx hb dX0_meldTops_187 (lv_at hl 0 rfl) ?_
        refine lv_istore (lv' := [(6, .int x), (8, .int x), (0, .ref o), (7, .int x7)]) hx hb dX0_meldTops_189 hl (by decide) rfl (fun ls hl => ?_)
        refine lv_iinc (v := x7 + (-1)) (lv' := [(7, .int (x7 + (-1))), (6, .int x), (8, .int x), (0, .ref o)]) hx hb dX0_meldTops_191 hl (k := 3) rfl rfl (by decide) rfl (fun ls hl => ?_)
        refine lv_goto (tgt := 96) hx hb dX0_meldTops_194 (by decide) ?_
        exact ih (x :: suf) (x7 + (-1)) x t2 H locs ls hF' (by rw [e7']; exact am1 _) (by rw [hU]) (by rw [hU]; show t2 1 = up1 x x6 β 1; rw [hup, e_t2, e_t1]; exact e1) (by rw [hU]; show t2 2 = up1 x x6 β 2; rw [hup, e_t2, e_t1]; show upd (σ 2) _ x6 = upd (β 2) _ x6; rw [e2]) (by rw [hU]; show t2 3 = up1 x x6 β 3; rw [hup, e_t2, e_t1]; show upd (σ 3) _ (r3 + 1) = upd (β 3) _ _; rw [show r3 = rk (σ 3) x6 from h_s3.2.trans (by rw [e_t1]; rfl), e3]) (by rw [e_t2, e_t1]; exact h13) (Ex_tr hE (by rw [e_t2, e_t1]; exact Ex_tr (Ex_up (by decide)) (Ex_up (by decide)))) Y (lv_sub hl [3, 1, 0] rfl)
      · skip
        have hup := up1_yes (c := x) (x := x6) (β := β) (by rw [← e3, ← e1]; have h1 := h_s1.2; have h2 := h_s2.2; rw [e_t1] at h1 h2; rw [h1, h2] at c141; exact c141)
        refine lv_aload_n hx hb dX0_meldTops_144 rfl (lv_at hl 1 rfl) ?_
        refine x0_g2 S Y dX0_meldTops_145 ?_
        refine lv_iload hx hb dX0_meldTops_148 (lv_at hl 0 rfl) ?_
        refine lv_aload_n hx hb dX0_meldTops_150 rfl (lv_at hl 1 rfl) ?_
        refine x0_g1 S Y dX0_meldTops_151 ?_
        refine lv_iload hx hb dX0_meldTops_154 (lv_at hl 0 rfl) ?_
        refine x0_l1 S Y h_x dX0_meldTops_156 ?_
        refine x0_s2 S Y h_x dX0_meldTops_157 (fun t2 H locs e_t2 Y => ?_)
        refine lv_aload_n hx hb dX0_meldTops_158 rfl (lv_at hl 1 rfl) ?_
        refine x0_g1 S Y dX0_meldTops_159 ?_
        refine lv_iload hx hb dX0_meldTops_162 (lv_at hl 0 rfl) ?_
        refine lv_iload hx hb dX0_meldTops_164 (lv_at hl 2 rfl) ?_
        refine x0_s1 S Y h_x dX0_meldTops_166 (fun t3 H locs e_t3 Y => ?_)
        refine lv_aload_n hx hb dX0_meldTops_167 rfl (lv_at hl 1 rfl) ?_
        refine x0_g3 S Y dX0_meldTops_168 ?_
        refine lv_iload hx hb dX0_meldTops_171 (lv_at hl 0 rfl) ?_
        refine lv_aload_n hx hb dX0_meldTops_173 rfl (lv_at hl 1 rfl) ?_
        refine lv_aload_n hx hb dX0_meldTops_174 rfl (lv_at hl 1 rfl) ?_
        refine x0_g2 S Y dX0_meldTops_175 ?_
        refine lv_iload hx hb dX0_meldTops_178 (lv_at hl 0 rfl) ?_
        refine x0_l2 S Y h_x dX0_meldTops_180 ?_
        refine lv_topi (fun v3 e_v3 => ?_)
        have e9 : v3 = σ 1 x.toNatClampNeg := by rw [e_v3, e_t3, e_t2, e_t1]; exact pk_us
        refine gCallI (ci := 0) (As := [.int v3]) (rest := [.int x, .ref (q 3)]) S (wX0_g dA o q) Y hA (c0_rankOf l D dA o q t3 v3 (by rw [e9, e1]; exact Bd_at hb1 h_x)) (cwV 1 S.2.2.2.2.1 (lw_V q137 q139 qs8 q25 q140) rfl rfl rfl (by decide +kernel) ⟨Nat.le_of_ble_eq_true rfl, Nat.le_of_ble_eq_true rfl⟩) rfl rfl rfl rfl hl.1 rfl (Nat.le_of_ble_eq_true rfl) dX0_meldTops_181 ⟨Nat.le_refl _, Nat.le_refl _⟩ (fun r3 s3 H locs h_s3 Y => ?_)
        rw [h_s3.1] at Y
        refine lv_iconst (v := 1) hx hb dX0_meldTops_184 (by decide) ?_
        refine lv_iadd hx hb dX0_meldTops_185 ?_
        refine x0_s3 S Y h_x dX0_meldTops_186 (fun t4 H locs e_t4 Y => ?_)
        refine lv_iload hx hb dX0_meldTops_187 (lv_at hl 0 rfl) ?_
        refine lv_istore (lv' := [(6, .int x), (8, .int x), (0, .ref o), (7, .int x7)]) hx hb dX0_meldTops_189 hl (by decide) rfl (fun ls hl => ?_)
        refine lv_iinc (v := x7 + (-1)) (lv' := [(7, .int (x7 + (-1))), (6, .int x), (8, .int x), (0, .ref o)]) hx hb dX0_meldTops_191 hl (k := 3) rfl rfl (by decide) rfl (fun ls hl => ?_)
        refine lv_goto (tgt := 96) hx hb dX0_meldTops_194 (by decide) ?_
        exact ih (x :: suf) (x7 + (-1)) x t4 H locs ls hF' (by rw [e7']; exact am1 _) (by rw [hU]) (by rw [hU]; show t4 1 = up1 x x6 β 1; rw [hup, e_t4, e_t3, e_t2, e_t1]; show upd (σ 1) _ x6 = upd (β 1) _ x6; rw [e1]) (by rw [hU]; show t4 2 = up1 x x6 β 2; rw [hup, e_t4, e_t3, e_t2, e_t1]; show upd (upd (σ 2) _ x6) _ (σ 1 _) = upd (β 2) _ (β 1 _); rw [upd_upd, e2, e1]) (by rw [hU]; show t4 3 = up1 x x6 β 3; rw [hup, e_t4, e_t3, e_t2, e_t1]; show upd (σ 3) _ (r3 + 1) = upd (β 3) _ _; rw [show r3 = rk (σ 3) (σ 1 x.toNatClampNeg) from h_s3.2.trans (by rw [e9, e_t3, e_t2, e_t1]; rfl), e3, e1]) (by rw [e_t4, e_t3, e_t2, e_t1]; exact h13) (Ex_tr hE (by rw [e_t4, e_t3, e_t2, e_t1]; exact Ex_tr (Ex_tr (Ex_tr (Ex_up (by decide)) (Ex_up (by decide))) (Ex_up (by decide))) (Ex_up (by decide)))) Y (lv_sub hl [3, 1, 0] rfl)
set_option maxHeartbeats 4000000 in
set_option maxRecDepth 100000 in
/-- LeftistHeaps.meldTops -/
theorem c0_meldTops (l : Launch) (D : va_G) (dA : Nat → ClassId) (o : Nat) (q : Nat → Nat) (σ : CS) (α : CS) (a b r : Int32) (α' : CS) (hac : Ac α σ) (hm : Md α a b r α') : gMi l D (wX0 dA o q) (tX0 dA) yX0_meldTops cX0_meldTops 9 (some .int) { frames := 1, cells := 0, slots := 0, locals := 22 } [.ref o, .int a, .int b] σ (fun r' σ' => r' = r ∧ Ac α' σ' ∧ Ko σ σ' ∧ σ' 14 = σ 14) := by
  intro sz
  refine gEnter (own := RX0) (lv := [(0, .ref o), (1, .int a), (2, .int b)]) (wX0_g dA o q) (by decide) rfl (Nat.le_of_ble_eq_true rfl) rfl (fun p e s m below meth c ls S hA Y hl => ?_)
  have hx := S.1
  have hb := S.2.1
  obtain ⟨⟨hB1, hB2, h_pa, h_pb⟩, stk, bl, hdn, hlen, hr9, hα9⟩ := hm
  obtain ⟨h_F, h_bl⟩ := Dn_in hB2 stk hdn h_pa h_pb
  have a1 := hac.2.1
  have a2 := hac.2.2.1
  have a3 := hac.2.2.2.1
  refine lv_iload_n hx hb dX0_meldTops_0 rfl (lv_at hl 1 rfl) ?_
  refine lv_istore_n (lv' := [(3, .int a), (0, .ref o), (1, .int a), (2, .int b)]) hx hb dX0_meldTops_1 rfl hl (by decide) rfl (fun ls hl => ?_)
  refine lv_iload_n hx hb dX0_meldTops_2 rfl (lv_at hl 3 rfl) ?_
  refine lv_istore (lv' := [(4, .int b), (3, .int a), (0, .ref o), (1, .int a), (2, .int b)]) hx hb dX0_meldTops_3 hl (by decide) rfl (fun ls hl => ?_)
  refine lv_iconst (v := 0) hx hb dX0_meldTops_5 (by decide) ?_
  refine lv_istore (lv' := [(5, .int 0), (4, .int b), (3, .int a), (0, .ref o), (1, .int a), (2, .int b)]) hx hb dX0_meldTops_6 hl (by decide) rfl (fun ls hl => ?_)
  refine x0_dn (σ0 := σ) (bl := bl) (F := stk) S hA (by rw [a2]; exact hB2) hlen ?_ stk [] a b σ _ _ ls rfl (by rw [hac.1, a2]; exact hdn) (Hl_nil _) h_pa h_pb (Ex_rf _ _) Y (lv_sub hl [3, 2, 1, 0] rfl)
  intro σ1 a1v b1v H locs ls h13 hE e_bl Y hl
  refine lv_iload_n hx hb dX0_meldTops_78 rfl (lv_at hl 1 rfl) ?_
  refine lv_if_lt (tgt := 86) hx hb dX0_meldTops_79 (by decide) (fun c79 => ?_) (fun c79 => ?_)
  · skip
    refine lv_iload hx hb dX0_meldTops_86 (lv_at hl 2 rfl) ?_
    refine lv_istore (lv' := [(6, .int b1v), (0, .ref o), (3, .int a1v), (4, .int b1v), (5, .int (nI stk.length))]) hx hb dX0_meldTops_88 hl (by decide) rfl (fun ls hl => ?_)
    refine lv_iload hx hb dX0_meldTops_90 (lv_at hl 4 rfl) ?_
    refine lv_iconst (v := 1) hx hb dX0_meldTops_92 (by decide) ?_
    refine lv_isub hx hb dX0_meldTops_93 ?_
    refine lv_istore (lv' := [(7, .int ((nI stk.length) - 1)), (6, .int b1v), (0, .ref o), (3, .int a1v), (4, .int b1v), (5, .int (nI stk.length))]) hx hb dX0_meldTops_94 hl (by decide) rfl (fun ls hl => ?_)
    refine x0_up (σ0 := σ) (α := α) (bl := bl) (F := stk) S hA h_F hlen h_bl hB1 hB2 ?_ stk.reverse [] (nI stk.length - 1) b1v σ1 _ _ ls (by rw [List.reverse_reverse, List.append_nil]) (by rw [List.length_reverse]) (by rw [if_pos c79] at e_bl; exact e_bl.symm) ((hE 1 (by decide)).trans a1) ((hE 2 (by decide)).trans a2) ((hE 3 (by decide)).trans a3) h13 (fun k hk => hE k (fun h => hk (List.mem_cons_of_mem _ (List.mem_cons_of_mem _ (List.mem_cons_of_mem _ h))))) Y (lv_sub hl [2, 1, 0] rfl)
    intro σ2 H locs ls e1 e2 e3 hE2 Y hl
    refine lv_iload hx hb dX0_meldTops_197 (lv_at hl 1 rfl) ?_
    exact gIret S Y rfl (⟨hr9.symm, Ac_up hac hE2 (fun k h1 h2 h3 => by rw [hα9]; exact upA_ex h1 h2 h3 stk) (by rw [hα9]; exact e1) (by rw [hα9]; exact e2) (by rw [hα9]; exact e3), Ko_ex hE2 (by decide), hE2 14 (by decide)⟩) dX0_meldTops_199
  · skip
    refine lv_iload_n hx hb dX0_meldTops_82 rfl (lv_at hl 1 rfl) ?_
    refine lv_goto (tgt := 88) hx hb dX0_meldTops_83 (by decide) ?_
    refine lv_istore (lv' := [(6, .int a1v), (0, .ref o), (3, .int a1v), (4, .int b1v), (5, .int (nI stk.length))]) hx hb dX0_meldTops_88 hl (by decide) rfl (fun ls hl => ?_)
    refine lv_iload hx hb dX0_meldTops_90 (lv_at hl 4 rfl) ?_
    refine lv_iconst (v := 1) hx hb dX0_meldTops_92 (by decide) ?_
    refine lv_isub hx hb dX0_meldTops_93 ?_
    refine lv_istore (lv' := [(7, .int ((nI stk.length) - 1)), (6, .int a1v), (0, .ref o), (3, .int a1v), (4, .int b1v), (5, .int (nI stk.length))]) hx hb dX0_meldTops_94 hl (by decide) rfl (fun ls hl => ?_)
    refine x0_up (σ0 := σ) (α := α) (bl := bl) (F := stk) S hA h_F hlen h_bl hB1 hB2 ?_ stk.reverse [] (nI stk.length - 1) a1v σ1 _ _ ls (by rw [List.reverse_reverse, List.append_nil]) (by rw [List.length_reverse]) (by rw [if_neg c79] at e_bl; exact e_bl.symm) ((hE 1 (by decide)).trans a1) ((hE 2 (by decide)).trans a2) ((hE 3 (by decide)).trans a3) h13 (fun k hk => hE k (fun h => hk (List.mem_cons_of_mem _ (List.mem_cons_of_mem _ (List.mem_cons_of_mem _ h))))) Y (lv_sub hl [2, 1, 0] rfl)
    intro σ2 H locs ls e1 e2 e3 hE2 Y hl
    refine lv_iload hx hb dX0_meldTops_197 (lv_at hl 1 rfl) ?_
    exact gIret S Y rfl (⟨hr9.symm, Ac_up hac hE2 (fun k h1 h2 h3 => by rw [hα9]; exact upA_ex h1 h2 h3 stk) (by rw [hα9]; exact e1) (by rw [hα9]; exact e2) (by rw [hα9]; exact e3), Ko_ex hE2 (by decide), hE2 14 (by decide)⟩) dX0_meldTops_199
end
section
theorem nI_2 (a : Nat) : nI a + 2 = nI (a + 2) := nI_add a 2
/-- an array holds a list from a place on -/
def Hs (f : Nat → Int32) (k : Nat) (l : List Int32) : Prop := ∀ j : Nat, j < l.length → f (k + j) = l.getD j 0
theorem Hs_0 {f : Nat → Int32} {k : Nat} {x : Int32} {l : List Int32} (h : Hs f k (x :: l)) : f k = x := h 0 (by simp)
theorem Hs_1 {f : Nat → Int32} {k : Nat} {x y : Int32} {l : List Int32} (h : Hs f k (x :: y :: l)) : f (k + 1) = y := h 1 (by simp)
theorem Hs_drop2 {f : Nat → Int32} {k n : Nat} {v x y : Int32} {l : List Int32} (h : Hs f k (x :: y :: l)) (hn : n ≤ k) : Hs (upd f n v) (k + 2) l := by
  intro j hj
  rw [pk_un (by omega)]
  have := h (j + 2) (by simp only [List.length_cons]; omega)
  rw [show k + 2 + j = k + (j + 2) by omega, this]
  rfl
theorem Hs_nil (f : Nat → Int32) (k : Nat) : Hs f k [] := fun j h => absurd h (Nat.not_lt_zero j)
theorem Hs_Hl {f : Nat → Int32} {l : List Int32} (h : Hl f l) : Hs f 0 l := fun j hj => by rw [Nat.zero_add]; exact h j hj
theorem Ps_len : ∀ (rs : List Int32) {α α' : CS} {out : List Int32}, Ps rs α out α' → out.length ≤ rs.length ∧ (rs ≠ [] → out ≠ [])
  | [], α, α', out, h => by
    obtain ⟨rfl, -⟩ := h
    exact ⟨Nat.le_refl _, fun h => h⟩
  | [x], α, α', out, h => by
    obtain ⟨rfl, -⟩ := h
    exact ⟨Nat.le_refl _, fun _ h => by cases h⟩
  | x :: y :: rs, α, α', out, h => by
    obtain ⟨r, α1, out', -, h2, rfl⟩ := h
    have := (Ps_len rs h2).1
    exact ⟨by simp only [List.length_cons]; omega, fun _ h => by cases h⟩
theorem Md_ex {α α' : CS} {a b r : Int32} {k : Nat} (h : Md α a b r α') (h1 : k ≠ 1) (h2 : k ≠ 2) (h3 : k ≠ 3) : α' k = α k := by
  obtain ⟨-, stk, bl, -, -, -, rfl⟩ := h
  exact upA_ex h1 h2 h3 stk
theorem Md_Bd {α α' : CS} {a b r : Int32} (h : Md α a b r α') : Bd (α' 1) ∧ Bd (α' 2) ∧ Pt r := by
  obtain ⟨⟨h1, h2, h3, h4⟩, stk, bl, hd, -, rfl, rfl⟩ := h
  obtain ⟨i1, i2⟩ := Dn_in h2 stk hd h3 h4
  obtain ⟨j1, j2, j3⟩ := upA_Bd i2 h1 h2 stk i1
  exact ⟨j2, j3, j1⟩
theorem Ps_ex : ∀ (rs : List Int32) {α α' : CS} {out : List Int32} {k : Nat}, Ps rs α out α' → k ≠ 1 → k ≠ 2 → k ≠ 3 → α' k = α k
  | [], α, α', out, k, h, _, _, _ => by rw [h.2]
  | [x], α, α', out, k, h, _, _, _ => by rw [h.2]
  | x :: y :: rs, α, α', out, k, h, h1, h2, h3 => by
    obtain ⟨r, α1, out', g1, g2, -⟩ := h
    exact (Ps_ex rs g2 h1 h2 h3).trans (Md_ex g1 h1 h2 h3)
theorem Mr_ex : ∀ (n : Nat) {rs : List Int32} {α α' : CS} {r : Int32} {k : Nat}, Mr n rs α r α' → k ≠ 1 → k ≠ 2 → k ≠ 3 → α' k = α k
  | 0, rs, α, α', r, k, h, _, _, _ => by rw [h.2]
  | n + 1, rs, α, α', r, k, h, h1, h2, h3 => by
    obtain ⟨-, out, α1, g1, g2⟩ := h
    exact (Mr_ex n g2 h1 h2 h3).trans (Ps_ex rs g1 h1 h2 h3)
theorem alone_ex {α : CS} {c : Int32} {k : Nat} (h1 : k ≠ 1) (h2 : k ≠ 2) (h3 : k ≠ 3) : alone c α k = α k := by
  unfold alone
  rw [up_n h3, up_n h2, up_n h1]
theorem letgo_ex {α : CS} {c : Int32} {k : Nat} (h1 : k ≠ 4) (h2 : k ≠ 5) (h3 : k ≠ 6) : letgo c α k = α k := by
  unfold letgo
  rw [up_n h3, up_n h2, up_n h1]
theorem Pg_ex {z : Int32} : ∀ (n : Nat) {stk row row' : List Int32} {α α' : CS} {k : Nat}, Pg z n stk row α row' α' → (k = 0 ∨ k = 7 ∨ k = 8) → α' k = α k
  | 0, stk, row, row', α, α', k, h, _ => by rw [h.2.2]
  | n + 1, stk, row, row', α, α', k, h, hk => by
    obtain ⟨c, st', -, -, -, -, g⟩ := h
    rcases g with ⟨-, -, g⟩ | ⟨-, -, g⟩ | ⟨-, -, g⟩
    · exact Pg_ex n g hk
    · exact (Pg_ex n g hk).trans (alone_ex (by omega) (by omega) (by omega))
    · exact (Pg_ex n g hk).trans (letgo_ex (by omega) (by omega) (by omega))
theorem Pu_ex {α α' : CS} {top z r : Int32} {k : Nat} (h : Pu α top z r α') (hk : k = 0 ∨ k = 7 ∨ k = 8) : α' k = α k := by
  obtain ⟨-, -, -, n, row, α1, j, h1, -, h2⟩ := h
  exact (Mr_ex j h2 (by omega) (by omega) (by omega)).trans (Pg_ex n h1 hk)
theorem alone_Bd {α : CS} {c : Int32} (h1 : Bd (α 1)) (h2 : Bd (α 2)) : Bd (alone c α 1) ∧ Bd (alone c α 2) := ⟨Bd_upd h1 Pt_m1, Bd_upd h2 Pt_m1⟩
theorem Ac_cell {α σ : CS} (h : Ac α σ) {c : Int32} (hc : vp_in c 60) : (α 4 c.toNatClampNeg = 0 ∧ σ 4 c.toNatClampNeg = 0) ∨ (α 4 c.toNatClampNeg = 1 ∧ σ 4 c.toNatClampNeg = 1 ∧ σ 5 c.toNatClampNeg = 0) ∨ (α 4 c.toNatClampNeg = 2 ∧ σ 4 c.toNatClampNeg = 1 ∧ σ 5 c.toNatClampNeg = 1) := h.2.2.2.2.1 _ (vp_lt hc)
theorem Ac_d1 {α σ : CS} (h : Ac α σ) {c : Int32} (hc : vp_in c 60) (h1 : α 4 c.toNatClampNeg = 1) : σ 5 c.toNatClampNeg = 0 ∧ σ 4 c.toNatClampNeg = 1 := by
  rcases Ac_cell h hc with ⟨e, -⟩ | ⟨-, b, a⟩ | ⟨e, -⟩
  · rw [h1] at e; exact absurd e (by decide)
  · exact ⟨a, b⟩
  · rw [h1] at e; exact absurd e (by decide)
theorem Ac_d2 {α σ : CS} (h : Ac α σ) {c : Int32} (hc : vp_in c 60) (h1 : α 4 c.toNatClampNeg = 2) : σ 5 c.toNatClampNeg = 1 ∧ σ 4 c.toNatClampNeg = 1 := by
  rcases Ac_cell h hc with ⟨e, -⟩ | ⟨e, -⟩ | ⟨-, b, a⟩
  · rw [h1] at e; exact absurd e (by decide)
  · rw [h1] at e; exact absurd e (by decide)
  · exact ⟨a, b⟩
theorem Ac_rel {α σ : CS} (h : Ac α σ) (c : Int32) : Ac (letgo c α) (rel0 c σ) := by
  obtain ⟨a0, a1, a2, a3, a4, a5, a6, a7, a8⟩ := h
  refine ⟨a0, a1, a2, a3, fun i hi => ?_, ?_, ?_, a7, a8⟩
  · show (upd (α 4) c.toNatClampNeg 0 i = 0 ∧ upd (σ 4) c.toNatClampNeg 0 i = 0) ∨ (upd (α 4) c.toNatClampNeg 0 i = 1 ∧ upd (σ 4) c.toNatClampNeg 0 i = 1 ∧ σ 5 i = 0) ∨ (upd (α 4) c.toNatClampNeg 0 i = 2 ∧ upd (σ 4) c.toNatClampNeg 0 i = 1 ∧ σ 5 i = 1)
    by_cases e : i = c.toNatClampNeg
    · rw [e, pk_us, pk_us]; exact Or.inl ⟨rfl, rfl⟩
    · rw [pk_un e, pk_un e]; exact a4 i hi
  · show upd (σ 12) (σ 15 0).toNatClampNeg c = upd (α 5) (α 6 0).toNatClampNeg c
    rw [a5, a6]
  · show σ 15 0 + 1 = α 6 0 + 1
    rw [a6]
theorem Ac_alone {α σ : CS} (h : Ac α σ) (c : Int32) : Ac (alone c α) (alone c σ) := by
  obtain ⟨a0, a1, a2, a3, a4, a5, a6, a7, a8⟩ := h
  refine ⟨a0, ?_, ?_, ?_, a4, a5, a6, a7, a8⟩
  · show upd (σ 1) _ _ = upd (α 1) _ _; rw [a1]
  · show upd (σ 2) _ _ = upd (α 2) _ _; rw [a2]
  · show upd (σ 3) _ _ = upd (α 3) _ _; rw [a3]
/-- scratch fields do not count -/
theorem Ac_sc {α σ σ' : CS} (h : Ac α σ) (hE : Ex [13, 14] σ σ') : Ac α σ' := by
  unfold Ac
  rw [hE 0 (by decide), hE 1 (by decide), hE 2 (by decide), hE 3 (by decide), hE 4 (by decide), hE 5 (by decide), hE 12 (by decide), hE 15 (by decide), hE 6 (by decide), hE 16 (by decide)]
  exact h
theorem Ac_top {α σ : CS} (h : Ac α σ) (k : Nat) (r : Int32) : Ac (va_up α 7 (upd (α 7) k r)) (va_up σ 6 (upd (σ 6) k r)) := by
  obtain ⟨a0, a1, a2, a3, a4, a5, a6, a7, a8⟩ := h
  refine ⟨a0, a1, a2, a3, a4, a5, a6, ?_, a8⟩
  show upd (σ 6) _ _ = upd (α 7) _ _; rw [a7]
theorem ph_len (l r : Int32) (st : List Int32) : (ph l r st).length ≤ st.length + 2 := by
  unfold ph
  split <;> split <;> simp <;> omega
theorem vp10 {h x : Int32} {n : Nat} (h0 : 0 ≤ h) (h1 : h < x) (hx : x = nI n) (hn : n ≤ 10) : vp_in h 10 := by
  rw [vp_in_iff]
  rw [Int32.le_iff_toInt_le] at h0
  rw [Int32.lt_iff_toInt_lt, hx, nI_toInt (by omega)] at h1
  have e0 : (0 : Int32).toInt = 0 := by decide
  omega
/-- the top of a heap, its dead ones taken off -/
def Tp (α : CS) (h : Int32) (α' : CS) : Prop := vp_in h 10 ∧ Pt (α 7 h.toNatClampNeg) ∧ ((α 7 h.toNatClampNeg < 0 ∧ α' = α) ∨ (¬ α 7 h.toNatClampNeg < 0 ∧ α 4 (α 7 h.toNatClampNeg).toNatClampNeg = 1 ∧ α' = α) ∨ (¬ α 7 h.toNatClampNeg < 0 ∧ α 4 (α 7 h.toNatClampNeg).toNatClampNeg = 2 ∧ ∃ (r : Int32) (α1 : CS), Pu α (α 7 h.toNatClampNeg) 0 r α1 ∧ α' = va_up α1 7 (upd (α1 7) h.toNatClampNeg r)))
def Fm (α : CS) (h r : Int32) (α' : CS) : Prop := (¬ isH α h ∧ r = -1 ∧ α' = α) ∨ (isH α h ∧ Tp α h α' ∧ r = α' 7 h.toNatClampNeg)
def Dm (α : CS) (h r : Int32) (α' : CS) : Prop := ∃ (c : Int32) (α1 : CS), Fm α h c α1 ∧ ((c < 0 ∧ c = -1 ∧ r = -1 ∧ α' = α1) ∨ (¬ c < 0 ∧ r = c ∧ vp_in h 10 ∧ vp_in c 60 ∧ vp_in (α1 6 0) 60 ∧ ∃ (r2 : Int32) (α2 : CS), Md (letgo c α1) (α1 1 c.toNatClampNeg) (α1 2 c.toNatClampNeg) r2 α2 ∧ α' = va_up α2 7 (upd (α2 7) h.toNatClampNeg r2)))
def Ml (α : CS) (d s r : Int32) (α' : CS) : Prop := (¬ (isH α d ∧ isH α s ∧ ¬ d = s) ∧ r = -1 ∧ α' = α) ∨ ((isH α d ∧ isH α s ∧ ¬ d = s) ∧ r = 0 ∧ vp_in d 10 ∧ vp_in s 10 ∧ ∃ (r2 : Int32) (α1 : CS), Md α (α 7 d.toNatClampNeg) (α 7 s.toNatClampNeg) r2 α1 ∧ α' = va_up α1 7 (upd (upd (α1 7) d.toNatClampNeg r2) s.toNatClampNeg (-1)))
def isL (α : CS) (x : Int32) : Prop := vp_in x 60 ∧ α 4 x.toNatClampNeg = 1
/-- a cell is taken from the pile, with a key -/
def take (c k : Int32) (α : CS) : CS := alone c (va_up (va_up (va_up α 6 (fun _ => α 6 0 - 1)) 0 (upd (α 0) c.toNatClampNeg k)) 4 (upd (α 4) c.toNatClampNeg 1))
def In (α : CS) (h k r : Int32) (α' : CS) : Prop := (¬ isH α h ∧ r = -1 ∧ α' = α) ∨ (isH α h ∧ vp_in h 10 ∧ ∃ α1 : CS, ((α 6 0 = 0 ∧ ∃ nh : Nat, α 8 0 = nI nh ∧ nh ≤ 10 ∧ Cl nh 0 α α1) ∨ (¬ α 6 0 = 0 ∧ α1 = α)) ∧
  ((α1 6 0 = 0 ∧ r = -2 ∧ α' = α1) ∨ (¬ α1 6 0 = 0 ∧ vp_in (α1 6 0 - 1) 60 ∧ r = α1 5 (α1 6 0 - 1).toNatClampNeg ∧ vp_in r 60 ∧ ∃ (r2 : Int32) (α2 : CS), Md (take r k α1) (α1 7 h.toNatClampNeg) r r2 α2 ∧ α' = va_up α2 7 (upd (α2 7) h.toNatClampNeg r2))))
theorem vp0 {n : Nat} (h : 0 < n) (h2 : n < 2 ^ 31) : vp_in 0 n := by rw [← nI_0]; exact vp_in_nI h h2
end
section
set_option maxHeartbeats 4000000 in
set_option maxRecDepth 100000 in
/-- LeftistHeaps.meldRow, one pass over the row -/
theorem x0_ps {p : Program} {l : Launch} {e : Env} {s : State} {m : MethodId} {args : Array Value} {below : List Frame} {meth : Method} {c : Code} {Q : State → Prop} {D : va_G} {dA : Nat → ClassId} {o : Nat} {q : Nat → Nat} {A : Nat → Prop} {H0 : Heap} {σ0 α' : CS} {O : List Int32} {n : Nat} (S : gS p s m meth c cX0_meldRow 5 args RX0 (some .int) D (tX0 dA)) (hA : ∀ q, H0.size ≤ q → A q) (hn : n ≤ 60) (kk : ∀ (σ : CS) (H : Heap) (locs : List Loc) (ls : Array Slot), Ac α' σ → Ko σ0 σ → Hl (σ 14) O → gP D (wX0 dA o q) A H0 σ H locs → lv_has ls 5 [(0, .ref o), (3, .int (nI O.length))] → W p l e { frames := 2, cells := 0, slots := 0, locals := 50 } s m args below meth c H locs 0 0 Q (F0 m 77 ls [])) : ∀ (N : Nat) (rs out out' : List Int32) (k : Nat) (α σ : CS) (H : Heap) (locs : List Loc) (ls : Array Slot), rs.length ≤ N → out ++ out' = O → ((rs = [] ∧ n ≤ k ∧ k ≤ 61) ∨ k + rs.length = n) → out.length ≤ k → Ps rs α out' α' → Ac α σ → Ko σ0 σ → Hl (σ 14) out → Hs (σ 14) k rs → gP D (wX0 dA o q) A H0 σ H locs → lv_has ls 5 [(0, .ref o), (2, .int (nI n)), (3, .int (nI out.length)), (4, .int (nI k))] → W p l e { frames := 2, cells := 0, slots := 0, locals := 50 } s m args below meth c H locs 0 0 Q (F0 m 18 ls []) := by
  have hx := S.1
  have hb := S.2.1
  intro N
  induction N with
  | zero =>
    intro rs out out' k α σ H locs ls hN hO hk hok hps hac hko h14 hrs Y hl
    have e0 : rs = [] := List.eq_nil_of_length_eq_zero (Nat.le_zero.mp hN)
    subst e0
    obtain ⟨h9, e9⟩ := hps
    rw [h9, List.append_nil] at hO
    have hk9 : n ≤ k ∧ k ≤ 61 := by rcases hk with h | h; exact h.2; (have h : k + 0 = n := h); omega
    refine lv_iload hx hb dX0_meldRow_18 (lv_at hl 3 rfl) ?_
    refine lv_iload_n hx hb dX0_meldRow_20 rfl (lv_at hl 1 rfl) ?_
    refine lv_icmp_ge (tgt := 77) hx hb dX0_meldRow_21 (by decide) (fun c21 => ?_) (fun c21 => ?_)
    · skip
      exact kk σ H locs ls (by rw [e9]; exact hac) hko (hO ▸ h14) Y (hO ▸ (lv_sub hl [0, 2] rfl))
    · skip
      exact absurd (nI_le hk9.1 (by omega)) c21
  | succ N ih =>
    intro rs out out' k α σ H locs ls hN hO hk hok hps hac hko h14 hrs Y hl
    match rs, hN, hk, hps, hrs with
    | [], hN, hk, hps, hrs =>
      obtain ⟨h9, e9⟩ := hps
      rw [h9, List.append_nil] at hO
      have hk9 : n ≤ k ∧ k ≤ 61 := by rcases hk with h | h; exact h.2; (have h : k + 0 = n := h); omega
      refine lv_iload hx hb dX0_meldRow_18 (lv_at hl 3 rfl) ?_
      refine lv_iload_n hx hb dX0_meldRow_20 rfl (lv_at hl 1 rfl) ?_
      refine lv_icmp_ge (tgt := 77) hx hb dX0_meldRow_21 (by decide) (fun c21 => ?_) (fun c21 => ?_)
      · skip
        exact kk σ H locs ls (by rw [e9]; exact hac) hko (hO ▸ h14) Y (hO ▸ (lv_sub hl [0, 2] rfl))
      · skip
        exact absurd (nI_le hk9.1 (by omega)) c21
    | [x], hN, hk, hps, hrs =>
      obtain ⟨h9, e9⟩ := hps
      have hk9 : k + 1 = n := by rcases hk with h | h; exact absurd h.1 (by simp); exact h
      have h_k : vp_in (nI k) 130 := vp_in_nI (by omega) (by decide)
      have h_o : vp_in (nI out.length) 130 := vp_in_nI (by omega) (by decide)
      refine lv_iload hx hb dX0_meldRow_18 (lv_at hl 3 rfl) ?_
      refine lv_iload_n hx hb dX0_meldRow_20 rfl (lv_at hl 1 rfl) ?_
      refine lv_icmp_ge (tgt := 77) hx hb dX0_meldRow_21 (by decide) (fun c21 => ?_) (fun c21 => ?_)
      · skip
        exact absurd c21 (nI_ge (by omega) (by omega))
      · skip
        refine lv_aload_n hx hb dX0_meldRow_24 rfl (lv_at hl 0 rfl) ?_
        refine x0_g14 S Y dX0_meldRow_25 ?_
        refine lv_iload_n hx hb dX0_meldRow_28 rfl (lv_at hl 2 rfl) ?_
        refine lv_iload hx hb dX0_meldRow_29 (lv_at hl 3 rfl) ?_
        refine lv_iconst (v := 1) hx hb dX0_meldRow_31 (by decide) ?_
        refine lv_iadd hx hb dX0_meldRow_32 ?_
        refine lv_iload_n hx hb dX0_meldRow_33 rfl (lv_at hl 1 rfl) ?_
        refine lv_icmp_ge (tgt := 60) hx hb dX0_meldRow_34 (by decide) (fun c34 => ?_) (fun c34 => ?_)
        · skip
          refine lv_aload_n hx hb dX0_meldRow_60 rfl (lv_at hl 0 rfl) ?_
          refine x0_g14 S Y dX0_meldRow_61 ?_
          refine lv_iload hx hb dX0_meldRow_64 (lv_at hl 3 rfl) ?_
          refine x0_l14 S Y h_k dX0_meldRow_66 ?_
          refine lv_topi (fun v1 e_v1 => ?_)
          have e9 : x = v1 := by rw [e_v1, nI_clamp (by omega)]; exact (Hs_0 hrs).symm
          subst e9
          refine x0_s14 S Y h_o dX0_meldRow_67 (fun t1 H locs e_t1 Y => ?_)
          refine lv_iinc (v := nI (out ++ [x]).length) (lv' := [(3, .int (nI (out ++ [x]).length)), (0, .ref o), (2, .int (nI n)), (4, .int (nI k))]) hx hb dX0_meldRow_68 hl (k := 2) rfl (by rw [List.length_append, List.length_singleton]; exact nI_1 _) (by decide) rfl (fun ls hl => ?_)
          refine lv_iinc (v := nI (k + 2)) (lv' := [(4, .int (nI (k + 2))), (3, .int (nI (out ++ [x]).length)), (0, .ref o), (2, .int (nI n))]) hx hb dX0_meldRow_71 hl (k := 3) rfl (nI_2 _) (by decide) rfl (fun ls hl => ?_)
          refine lv_goto (tgt := 18) hx hb dX0_meldRow_74 (by decide) ?_
          exact ih [] (out ++ [x]) [] (k + 2) α t1 H locs ls (Nat.zero_le _) (by rw [List.append_nil, ← hO, h9]) (Or.inl ⟨rfl, by omega, by omega⟩) (by rw [List.length_append, List.length_singleton]; omega) ⟨rfl, e9⟩ (Ac_sc hac (by rw [e_t1]; exact Ex_up (by decide))) (Ko_tr hko (by rw [e_t1]; exact Ko_ex (Ex_up (ks := [14]) (by decide)) (by decide))) (by rw [e_t1]; show Hl (upd (σ 14) (nI out.length).toNatClampNeg x) _; rw [nI_clamp (by omega)]; exact Hl_push h14 x) (Hs_nil _ _) Y (lv_sub hl [2, 3, 1, 0] rfl)
        · skip
          exact absurd (by rw [nI_1, hk9]; exact nI_le (Nat.le_refl _) (by omega)) c34
    | x :: y :: rs, hN, hk, hps, hrs =>
      obtain ⟨r, α1, out9, hmd, hps, h9⟩ := hps
      have hk9 : k + (rs.length + 2) = n := by rcases hk with h | h; exact absurd h.1 (by simp); exact h
      have h_k : vp_in (nI k) 130 := vp_in_nI (by omega) (by decide)
      have h_k1 : vp_in ((nI k) + 1) 130 := by rw [nI_1]; exact vp_in_nI (by omega) (by decide)
      have h_o : vp_in (nI out.length) 130 := vp_in_nI (by omega) (by decide)
      have hN9 : rs.length ≤ N := by simp only [List.length_cons] at hN; omega
      refine lv_iload hx hb dX0_meldRow_18 (lv_at hl 3 rfl) ?_
      refine lv_iload_n hx hb dX0_meldRow_20 rfl (lv_at hl 1 rfl) ?_
      refine lv_icmp_ge (tgt := 77) hx hb dX0_meldRow_21 (by decide) (fun c21 => ?_) (fun c21 => ?_)
      · skip
        exact absurd c21 (nI_ge (by omega) (by omega))
      · skip
        refine lv_aload_n hx hb dX0_meldRow_24 rfl (lv_at hl 0 rfl) ?_
        refine x0_g14 S Y dX0_meldRow_25 ?_
        refine lv_iload_n hx hb dX0_meldRow_28 rfl (lv_at hl 2 rfl) ?_
        refine lv_iload hx hb dX0_meldRow_29 (lv_at hl 3 rfl) ?_
        refine lv_iconst (v := 1) hx hb dX0_meldRow_31 (by decide) ?_
        refine lv_iadd hx hb dX0_meldRow_32 ?_
        refine lv_iload_n hx hb dX0_meldRow_33 rfl (lv_at hl 1 rfl) ?_
        refine lv_icmp_ge (tgt := 60) hx hb dX0_meldRow_34 (by decide) (fun c34 => ?_) (fun c34 => ?_)
        · skip
          exact absurd c34 (by rw [nI_1]; exact nI_ge (by omega) (by omega))
        · skip
          refine lv_aload_n hx hb dX0_meldRow_37 rfl (lv_at hl 0 rfl) ?_
          refine lv_aload_n hx hb dX0_meldRow_38 rfl (lv_at hl 0 rfl) ?_
          refine x0_g14 S Y dX0_meldRow_39 ?_
          refine lv_iload hx hb dX0_meldRow_42 (lv_at hl 3 rfl) ?_
          refine x0_l14 S Y h_k dX0_meldRow_44 ?_
          refine lv_topi (fun v1 e_v1 => ?_)
          have e9 : x = v1 := by rw [e_v1, nI_clamp (by omega)]; exact (Hs_0 hrs).symm
          subst e9
          refine lv_aload_n hx hb dX0_meldRow_45 rfl (lv_at hl 0 rfl) ?_
          refine x0_g14 S Y dX0_meldRow_46 ?_
          refine lv_iload hx hb dX0_meldRow_49 (lv_at hl 3 rfl) ?_
          refine lv_iconst (v := 1) hx hb dX0_meldRow_51 (by decide) ?_
          refine lv_iadd hx hb dX0_meldRow_52 ?_
          refine x0_l14 S Y h_k1 dX0_meldRow_53 ?_
          refine lv_topi (fun v2 e_v2 => ?_)
          have e9 : y = v2 := by rw [e_v2, nI_1, nI_clamp (by omega)]; exact (Hs_1 hrs).symm
          subst e9
          refine gCallI (ci := 0) (As := [.int x, .int y]) (rest := [.int (nI out.length), .ref (q 14)]) S (wX0_g dA o q) Y hA (c0_meldTops l D dA o q σ α x y r α1 hac hmd) (cwV 2 S.2.2.2.2.1 (lw_V q129 q131 qs6 q25 q132) rfl rfl rfl (by decide +kernel) ⟨Nat.le_of_ble_eq_true rfl, Nat.le_of_ble_eq_true rfl⟩) rfl rfl rfl rfl hl.1 rfl (Nat.le_of_ble_eq_true rfl) dX0_meldRow_54 ⟨Nat.le_refl _, Nat.le_refl _⟩ (fun r1 t1 H locs h_t1 Y => ?_)
          obtain ⟨e_r1, hac1, hko1, h141⟩ := h_t1
          rw [e_r1]
          refine lv_goto (tgt := 67) hx hb dX0_meldRow_57 (by decide) ?_
          refine x0_s14 S Y h_o dX0_meldRow_67 (fun t2 H locs e_t2 Y => ?_)
          refine lv_iinc (v := nI (out ++ [r]).length) (lv' := [(3, .int (nI (out ++ [r]).length)), (0, .ref o), (2, .int (nI n)), (4, .int (nI k))]) hx hb dX0_meldRow_68 hl (k := 2) rfl (by rw [List.length_append, List.length_singleton]; exact nI_1 _) (by decide) rfl (fun ls hl => ?_)
          refine lv_iinc (v := nI (k + 2)) (lv' := [(4, .int (nI (k + 2))), (3, .int (nI (out ++ [r]).length)), (0, .ref o), (2, .int (nI n))]) hx hb dX0_meldRow_71 hl (k := 3) rfl (nI_2 _) (by decide) rfl (fun ls hl => ?_)
          refine lv_goto (tgt := 18) hx hb dX0_meldRow_74 (by decide) ?_
          exact ih rs (out ++ [r]) out9 (k + 2) α1 t2 H locs ls hN9 (by rw [List.append_assoc, ← hO, h9]; rfl) (by rcases rs with _ | ⟨u, rs⟩; exact Or.inl ⟨rfl, by simp only [List.length_nil] at hk9; omega, by omega⟩; exact Or.inr (by omega)) (by rw [List.length_append, List.length_singleton]; omega) hps (Ac_sc hac1 (by rw [e_t2]; exact Ex_up (by decide))) (Ko_tr hko (Ko_tr hko1 (by rw [e_t2]; exact Ko_ex (Ex_up (ks := [14]) (by decide)) (by decide)))) (by rw [e_t2]; show Hl (upd (t1 14) (nI out.length).toNatClampNeg r) _; rw [nI_clamp (by omega), h141]; exact Hl_push h14 r) (by rw [e_t2]; show Hs (upd (t1 14) (nI out.length).toNatClampNeg r) _ _; rw [nI_clamp (by omega), h141]; exact Hs_drop2 hrs hok) Y (lv_sub hl [2, 3, 1, 0] rfl)
set_option maxHeartbeats 4000000 in
set_option maxRecDepth 100000 in
/-- LeftistHeaps.meldRow, pass after pass -/
theorem x0_mr {p : Program} {l : Launch} {e : Env} {s : State} {m : MethodId} {args : Array Value} {below : List Frame} {meth : Method} {c : Code} {Q : State → Prop} {D : va_G} {dA : Nat → ClassId} {o : Nat} {q : Nat → Nat} {A : Nat → Prop} {H0 : Heap} {σ0 α' : CS} {r : Int32} (S : gS p s m meth c cX0_meldRow 5 args RX0 (some .int) D (tX0 dA)) (hA : ∀ q, H0.size ≤ q → A q) (kk : ∀ (σ : CS) (H : Heap) (locs : List Loc) (ls : Array Slot), Ac α' σ → Ko σ0 σ → σ 14 0 = r → gP D (wX0 dA o q) A H0 σ H locs → lv_has ls 5 [(0, .ref o)] → W p l e { frames := 2, cells := 0, slots := 0, locals := 50 } s m args below meth c H locs 0 0 Q (F0 m 82 ls [])) : ∀ (K : Nat) (rs : List Int32) (α σ : CS) (H : Heap) (locs : List Loc) (ls : Array Slot), Mr K rs α r α' → rs ≠ [] → rs.length ≤ 60 → Ac α σ → Ko σ0 σ → Hl (σ 14) rs → gP D (wX0 dA o q) A H0 σ H locs → lv_has ls 5 [(0, .ref o), (2, .int (nI rs.length))] → W p l e { frames := 2, cells := 0, slots := 0, locals := 50 } s m args below meth c H locs 0 0 Q (F0 m 8 ls []) := by
  have hx := S.1
  have hb := S.2.1
  intro K
  induction K with
  | zero =>
    intro rs α σ H locs ls hmr hne hlen hac hko h14 Y hl
    obtain ⟨h9, e9⟩ := hmr
    have h9 : rs = [r] := h9.resolve_left (fun h => hne h.1)
    subst h9
    refine lv_iload_n hx hb dX0_meldRow_8 rfl (lv_at hl 1 rfl) ?_
    refine lv_iconst (v := 1) hx hb dX0_meldRow_9 (by decide) ?_
    refine lv_icmp_le (tgt := 82) hx hb dX0_meldRow_10 (by decide) (fun c10 => ?_) (fun c10 => ?_)
    · skip
      exact kk σ H locs ls (by rw [e9]; exact hac) hko (h14 0 (Nat.zero_lt_succ _)) Y (lv_sub hl [0] rfl)
    · skip
      exact absurd (by decide +kernel : nI 1 ≤ 1) c10
  | succ K ih =>
    intro rs α σ H locs ls hmr hne hlen hac hko h14 Y hl
    obtain ⟨h2, out, α1, hps, hmr⟩ := hmr
    obtain ⟨hl9, hn9⟩ := Ps_len rs hps
    refine lv_iload_n hx hb dX0_meldRow_8 rfl (lv_at hl 1 rfl) ?_
    refine lv_iconst (v := 1) hx hb dX0_meldRow_9 (by decide) ?_
    refine lv_icmp_le (tgt := 82) hx hb dX0_meldRow_10 (by decide) (fun c10 => ?_) (fun c10 => ?_)
    · skip
      exact absurd c10 (nI_ge (a := 1) (by omega) (by omega))
    · skip
      refine lv_iconst (v := 0) hx hb dX0_meldRow_13 (by decide) ?_
      refine lv_istore_n (lv' := [(3, .int 0), (0, .ref o), (2, .int (nI rs.length))]) hx hb dX0_meldRow_14 rfl hl (by decide) rfl (fun ls hl => ?_)
      refine lv_iconst (v := 0) hx hb dX0_meldRow_15 (by decide) ?_
      refine lv_istore (lv' := [(4, .int 0), (3, .int 0), (0, .ref o), (2, .int (nI rs.length))]) hx hb dX0_meldRow_16 hl (by decide) rfl (fun ls hl => ?_)
      refine x0_ps (σ0 := σ0) (O := out) (n := rs.length) S hA hlen ?_ rs.length rs [] out 0 α σ _ _ ls (Nat.le_refl _) rfl (Or.inr (Nat.zero_add _)) (Nat.le_refl _) hps hac hko (Hl_nil _) (Hs_Hl h14) Y (lv_sub hl [2, 3, 1, 0] rfl)
      intro σ1 H locs ls hac hko h14 Y hl
      refine lv_iload_n hx hb dX0_meldRow_77 rfl (lv_at hl 1 rfl) ?_
      refine lv_istore_n (lv' := [(2, .int (nI out.length)), (0, .ref o), (3, .int (nI out.length))]) hx hb dX0_meldRow_78 rfl hl (by decide) rfl (fun ls hl => ?_)
      refine lv_goto (tgt := 8) hx hb dX0_meldRow_79 (by decide) ?_
      exact ih out α1 σ1 H locs ls hmr (hn9 hne) (by omega) hac hko h14 Y (lv_sub hl [1, 0] rfl)
set_option maxHeartbeats 4000000 in
set_option maxRecDepth 100000 in
/-- LeftistHeaps.meldRow -/
theorem c0_meldRow (l : Launch) (D : va_G) (dA : Nat → ClassId) (o : Nat) (q : Nat → Nat) (σ : CS) (α : CS) (rs : List Int32) (r : Int32) (α' : CS) (K : Nat) (hac : Ac α σ) (h14 : Hl (σ 14) rs) (hlen : rs.length ≤ 60) (hmr : Mr K rs α r α') : gMi l D (wX0 dA o q) (tX0 dA) yX0_meldRow cX0_meldRow 5 (some .int) { frames := 2, cells := 0, slots := 0, locals := 50 } [.ref o, .int (nI rs.length)] σ (fun r' σ' => r' = r ∧ Ac α' σ' ∧ Ko σ σ') := by
  intro sz
  refine gEnter (own := RX0) (lv := [(0, .ref o), (1, .int (nI rs.length))]) (wX0_g dA o q) (by decide) rfl (Nat.le_of_ble_eq_true rfl) rfl (fun p e s m below meth c ls S hA Y hl => ?_)
  have hx := S.1
  have hb := S.2.1
  refine lv_iload_n hx hb dX0_meldRow_0 rfl (lv_at hl 1 rfl) ?_
  refine lv_if_ne (tgt := 6) hx hb dX0_meldRow_1 (by decide) (fun c1 => ?_) (fun c1 => ?_)
  · skip
    refine lv_iload_n hx hb dX0_meldRow_6 rfl (lv_at hl 1 rfl) ?_
    refine lv_istore_n (lv' := [(2, .int (nI rs.length)), (0, .ref o), (1, .int (nI rs.length))]) hx hb dX0_meldRow_7 rfl hl (by decide) rfl (fun ls hl => ?_)
    refine x0_mr (σ0 := σ) (r := r) S hA ?_ K rs α σ _ _ ls hmr (fun h => c1 (by rw [h]; rfl)) hlen hac (Ko_rf _) h14 Y (lv_sub hl [1, 0] rfl)
    intro σ1 H locs ls hac hko h14 Y hl
    refine lv_aload_n hx hb dX0_meldRow_82 rfl (lv_at hl 0 rfl) ?_
    refine x0_g14 S Y dX0_meldRow_83 ?_
    refine lv_iconst (v := 0) hx hb dX0_meldRow_86 (by decide) ?_
    refine x0_l14 S Y (vp0 (by decide) (by decide)) dX0_meldRow_87 ?_
    exact gIret S Y rfl (⟨h14, hac, hko⟩) dX0_meldRow_88
  · skip
    refine lv_iconst (v := (-1)) hx hb dX0_meldRow_4 (by decide) ?_
    have e0 : rs = [] := by rcases rs with _ | ⟨u, rs⟩; rfl; exact absurd c1 (nI_ne0 (by simp only [List.length_cons]; omega) (by omega))
    subst e0
    obtain ⟨h9, e9⟩ : r = -1 ∧ α' = α := by rcases K with _ | K; (rcases hmr.1 with h | h; exact ⟨h.2, hmr.2⟩; cases h); exact absurd hmr.1 (by decide)
    exact gIret S Y rfl (⟨h9.symm, by rw [e9]; exact hac, Ko_rf _⟩) dX0_meldRow_5
set_option maxHeartbeats 4000000 in
set_option maxRecDepth 100000 in
/-- LeftistHeaps.purge: what lies below goes onto the stack -/
theorem x0_pt {p : Program} {l : Launch} {e : Env} {s : State} {m : MethodId} {args : Array Value} {below : List Frame} {meth : Method} {c : Code} {Q : State → Prop} {D : va_G} {dA : Nat → ClassId} {o : Nat} {q : Nat → Nat} {A : Nat → Prop} {H0 : Heap} {σ0 : CS} {z x4 lc rc : Int32} {st : List Int32} (S : gS p s m meth c cX0_purge 8 args RX0 (some .int) D (tX0 dA)) (hA : ∀ q, H0.size ≤ q → A q) (hst : st.length ≤ 59) (h13 : Hl (σ0 13) st.reverse) (kk : ∀ (σ : CS) (H : Heap) (locs : List Loc) (ls : Array Slot), Ex [13] σ0 σ → Hl (σ 13) (ph lc rc st).reverse → gP D (wX0 dA o q) A H0 σ H locs → lv_has ls 8 [(0, .ref o), (2, .int z), (3, .int (nI (ph lc rc st).length)), (4, .int x4)] → W p l e { frames := 3, cells := 0, slots := 0, locals := 74 } s m args below meth c H locs 0 0 Q (F0 m 18 ls [])) (H : Heap) (locs : List Loc) (ls : Array Slot) (Y : gP D (wX0 dA o q) A H0 σ0 H locs) (hl : lv_has ls 8 [(0, .ref o), (2, .int z), (3, .int (nI st.length)), (4, .int x4), (6, .int lc), (7, .int rc)]) : W p l e { frames := 3, cells := 0, slots := 0, locals := 74 } s m args below meth c H locs 0 0 Q (F0 m 135 ls []) := by
  have hx := S.1
  have hb := S.2.1
  have h_n : vp_in (nI st.length) 130 := vp_in_nI (by omega) (by decide)
  have h_n1 : vp_in (nI (st.length + 1)) 130 := vp_in_nI (by omega) (by decide)
  refine lv_iload hx hb dX0_purge_135 (lv_at hl 5 rfl) ?_
  refine lv_if_lt (tgt := 151) hx hb dX0_purge_137 (by decide) (fun c137 => ?_) (fun c137 => ?_)
  · skip
    refine lv_iload hx hb dX0_purge_151 (lv_at hl 4 rfl) ?_
    refine lv_if_lt (tgt := 167) hx hb dX0_purge_153 (by decide) (fun c153 => ?_) (fun c153 => ?_)
    · skip
      refine lv_goto (tgt := 18) hx hb dX0_purge_167 (by decide) ?_
      have hph : ph lc rc st = st := by unfold ph; rw [if_pos c137, if_pos c153]; rfl
      exact kk σ0 H locs ls (Ex_rf _ _) (by rw [hph]; exact h13) Y (by rw [hph]; exact (lv_sub hl [0, 1, 2, 3] rfl))
    · skip
      refine lv_aload_n hx hb dX0_purge_156 rfl (lv_at hl 0 rfl) ?_
      refine x0_g13 S Y dX0_purge_157 ?_
      refine lv_iload_n hx hb dX0_purge_160 rfl (lv_at hl 2 rfl) ?_
      refine lv_iload hx hb dX0_purge_161 (lv_at hl 4 rfl) ?_
      refine x0_s13 S Y h_n dX0_purge_163 (fun t2 H locs e_t2 Y => ?_)
      refine lv_iinc (v := nI (st.length + 1)) (lv' := [(3, .int (nI (st.length + 1))), (0, .ref o), (2, .int z), (4, .int x4), (6, .int lc), (7, .int rc)]) hx hb dX0_purge_164 hl (k := 2) rfl (nI_1 _) (by decide) rfl (fun ls hl => ?_)
      refine lv_goto (tgt := 18) hx hb dX0_purge_167 (by decide) ?_
      have hph : ph lc rc st = lc :: st := by unfold ph; rw [if_pos c137, if_neg c153]; rfl
      exact kk t2 H locs ls (by rw [e_t2]; exact Ex_up (by decide)) (by rw [hph]; rw [List.reverse_cons, e_t2]; show Hl (upd (σ0 13) (nI st.length).toNatClampNeg lc) _; rw [nI_clamp (by omega), ← List.length_reverse]; exact Hl_push h13 lc) Y (by rw [hph]; exact (lv_sub hl [1, 2, 0, 3] rfl))
  · skip
    refine lv_aload_n hx hb dX0_purge_140 rfl (lv_at hl 0 rfl) ?_
    refine x0_g13 S Y dX0_purge_141 ?_
    refine lv_iload_n hx hb dX0_purge_144 rfl (lv_at hl 2 rfl) ?_
    refine lv_iload hx hb dX0_purge_145 (lv_at hl 5 rfl) ?_
    refine x0_s13 S Y h_n dX0_purge_147 (fun t1 H locs e_t1 Y => ?_)
    refine lv_iinc (v := nI (st.length + 1)) (lv' := [(3, .int (nI (st.length + 1))), (0, .ref o), (2, .int z), (4, .int x4), (6, .int lc), (7, .int rc)]) hx hb dX0_purge_148 hl (k := 2) rfl (nI_1 _) (by decide) rfl (fun ls hl => ?_)
    refine lv_iload hx hb dX0_purge_151 (lv_at hl 4 rfl) ?_
    refine lv_if_lt (tgt := 167) hx hb dX0_purge_153 (by decide) (fun c153 => ?_) (fun c153 => ?_)
    · skip
      refine lv_goto (tgt := 18) hx hb dX0_purge_167 (by decide) ?_
      have hph : ph lc rc st = rc :: st := by unfold ph; rw [if_neg c137, if_pos c153]; rfl
      exact kk t1 H locs ls (by rw [e_t1]; exact Ex_up (by decide)) (by rw [hph]; rw [List.reverse_cons, e_t1]; show Hl (upd (σ0 13) (nI st.length).toNatClampNeg rc) _; rw [nI_clamp (by omega), ← List.length_reverse]; exact Hl_push h13 rc) Y (by rw [hph]; exact (lv_sub hl [1, 2, 0, 3] rfl))
    · skip
      refine lv_aload_n hx hb dX0_purge_156 rfl (lv_at hl 1 rfl) ?_
      refine x0_g13 S Y dX0_purge_157 ?_
      refine lv_iload_n hx hb dX0_purge_160 rfl (lv_at hl 0 rfl) ?_
      refine lv_iload hx hb dX0_purge_161 (lv_at hl 4 rfl) ?_
      refine x0_s13 S Y h_n1 dX0_purge_163 (fun t2 H locs e_t2 Y => ?_)
      refine lv_iinc (v := nI (st.length + 1 + 1)) (lv' := [(3, .int (nI (st.length + 1 + 1))), (0, .ref o), (2, .int z), (4, .int x4), (6, .int lc), (7, .int rc)]) hx hb dX0_purge_164 hl (k := 0) rfl (nI_1 _) (by decide) rfl (fun ls hl => ?_)
      refine lv_goto (tgt := 18) hx hb dX0_purge_167 (by decide) ?_
      have g1 : Hl (t1 13) (rc :: st).reverse := by rw [List.reverse_cons, e_t1]; show Hl (upd (σ0 13) (nI st.length).toNatClampNeg rc) _; rw [nI_clamp (by omega), ← List.length_reverse]; exact Hl_push h13 rc
      have hph : ph lc rc st = lc :: rc :: st := by unfold ph; rw [if_neg c137, if_neg c153]; rfl
      exact kk t2 H locs ls (Ex_tr (b := t1) (by rw [e_t1]; exact Ex_up (by decide)) (by rw [e_t2]; exact Ex_up (by decide))) (by rw [hph]; rw [List.reverse_cons, e_t2]; show Hl (upd (t1 13) (nI (st.length + 1)).toNatClampNeg lc) _; rw [nI_clamp (by omega), show st.length + 1 = (rc :: st).reverse.length by simp]; exact Hl_push g1 lc) Y (by rw [hph]; exact (lv_sub hl [1, 2, 0, 3] rfl))
set_option maxHeartbeats 4000000 in
set_option maxRecDepth 100000 in
/-- LeftistHeaps.purge: going through -/
theorem x0_pg {p : Program} {l : Launch} {e : Env} {s : State} {m : MethodId} {args : Array Value} {below : List Frame} {meth : Method} {c : Code} {Q : State → Prop} {D : va_G} {dA : Nat → ClassId} {o : Nat} {q : Nat → Nat} {A : Nat → Prop} {H0 : Heap} {σ0 α1 : CS} {z : Int32} {row1 : List Int32} (S : gS p s m meth c cX0_purge 8 args RX0 (some .int) D (tX0 dA)) (hA : ∀ q, H0.size ≤ q → A q) (kk : ∀ (σ : CS) (H : Heap) (locs : List Loc) (ls : Array Slot), Ac α1 σ → Ko σ0 σ → Hl (σ 14) row1 → gP D (wX0 dA o q) A H0 σ H locs → lv_has ls 8 [(0, .ref o), (4, .int (nI row1.length))] → W p l e { frames := 3, cells := 0, slots := 0, locals := 74 } s m args below meth c H locs 0 0 Q (F0 m 170 ls [])) : ∀ (n : Nat) (stk row : List Int32) (α σ : CS) (H : Heap) (locs : List Loc) (ls : Array Slot), Pg z n stk row α row1 α1 → Bd (α 1) → Bd (α 2) → Ac α σ → Ko σ0 σ → Hl (σ 13) stk.reverse → Hl (σ 14) row → gP D (wX0 dA o q) A H0 σ H locs → lv_has ls 8 [(0, .ref o), (2, .int z), (3, .int (nI stk.length)), (4, .int (nI row.length))] → W p l e { frames := 3, cells := 0, slots := 0, locals := 74 } s m args below meth c H locs 0 0 Q (F0 m 18 ls []) := by
  have hx := S.1
  have hb := S.2.1
  intro n
  induction n with
  | zero =>
    intro stk row α σ H locs ls hpg hB1 hB2 hac hko h13 h14 Y hl
    obtain ⟨h9, e8, e9⟩ := hpg
    subst h9
    refine lv_iload_n hx hb dX0_purge_18 rfl (lv_at hl 2 rfl) ?_
    refine lv_if_le (tgt := 170) hx hb dX0_purge_19 (by decide) (fun c19 => ?_) (fun c19 => ?_)
    · skip
      exact kk σ H locs ls (by rw [e9]; exact hac) hko (by rw [e8]; exact h14) Y (by rw [e8]; exact (lv_sub hl [0, 3] rfl))
    · skip
      exact absurd (by decide +kernel : nI 0 ≤ 0) c19
  | succ n ih =>
    intro stk row α σ H locs ls hpg hB1 hB2 hac hko h13 h14 Y hl
    obtain ⟨c0, st, h9, hl1, hl2, h_c, hpg⟩ := hpg
    subst h9
    have hst : st.length ≤ 59 := by simp only [List.length_cons] at hl1; omega
    have h_k : vp_in (nI st.length) 130 := vp_in_nI (by omega) (by decide)
    have h_r : vp_in (nI row.length) 130 := vp_in_nI (by omega) (by decide)
    rw [List.reverse_cons] at h13
    have h_t : σ 13 st.length = c0 := by have h9 := Hl_mid (a := st.reverse) (b := []) h13; rw [List.length_reverse] at h9; exact h9
    have h13 : Hl (σ 13) st.reverse := Hl_left h13
    have a1 := hac.2.1
    have a2 := hac.2.2.1
    rcases hpg with ⟨hs, hz, hpg⟩ | ⟨hs, hz, hpg⟩ | ⟨hs, hf, hpg⟩
    · have hdd := (Ac_d1 hac h_c hs).1
      refine lv_iload_n hx hb dX0_purge_18 rfl (lv_at hl 2 rfl) ?_
      refine lv_if_le (tgt := 170) hx hb dX0_purge_19 (by decide) (fun c19 => ?_) (fun c19 => ?_)
      · skip
        exact absurd c19 (nI_nle (by simp) (by simp only [List.length_cons]; omega))
      · skip
        refine lv_iinc (v := nI st.length) (lv' := [(3, .int (nI st.length)), (0, .ref o), (2, .int z), (4, .int (nI row.length))]) hx hb dX0_purge_22 hl (k := 2) rfl (pk_m1 _) (by decide) rfl (fun ls hl => ?_)
        refine lv_aload_n hx hb dX0_purge_25 rfl (lv_at hl 1 rfl) ?_
        refine x0_g13 S Y dX0_purge_26 ?_
        refine lv_iload_n hx hb dX0_purge_29 rfl (lv_at hl 0 rfl) ?_
        refine x0_l13 S Y h_k dX0_purge_30 ?_
        refine lv_topi (fun v1 e_v1 => ?_)
        have e9 : c0 = v1 := by rw [e_v1, nI_clamp (by omega)]; exact h_t.symm
        subst e9
        refine lv_istore (lv' := [(5, .int c0), (3, .int (nI st.length)), (0, .ref o), (2, .int z), (4, .int (nI row.length))]) hx hb dX0_purge_31 hl (by decide) rfl (fun ls hl => ?_)
        refine lv_aload_n hx hb dX0_purge_33 rfl (lv_at hl 2 rfl) ?_
        refine x0_g5 S Y dX0_purge_34 ?_
        refine lv_iload hx hb dX0_purge_37 (lv_at hl 0 rfl) ?_
        refine x0_l5 S Y h_c dX0_purge_39 ?_
        refine lv_if_ne (tgt := 62) hx hb dX0_purge_40 (by decide) (fun c40 => ?_) (fun c40 => ?_)
        · skip
          exact absurd hdd c40
        · skip
          refine lv_iload_n hx hb dX0_purge_43 rfl (lv_at hl 3 rfl) ?_
          refine lv_if_ne (tgt := 62) hx hb dX0_purge_44 (by decide) (fun c44 => ?_) (fun c44 => ?_)
          · skip
            exact absurd hz c44
          · skip
            refine lv_aload_n hx hb dX0_purge_47 rfl (lv_at hl 2 rfl) ?_
            refine x0_g14 S Y dX0_purge_48 ?_
            refine lv_iload hx hb dX0_purge_51 (lv_at hl 4 rfl) ?_
            refine lv_iload hx hb dX0_purge_53 (lv_at hl 0 rfl) ?_
            refine x0_s14 S Y h_r dX0_purge_55 (fun t1 H locs e_t1 Y => ?_)
            refine lv_iinc (v := nI (row ++ [c0]).length) (lv' := [(4, .int (nI (row ++ [c0]).length)), (5, .int c0), (3, .int (nI st.length)), (0, .ref o), (2, .int z)]) hx hb dX0_purge_56 hl (k := 4) rfl (by rw [List.length_append, List.length_singleton]; exact nI_1 _) (by decide) rfl (fun ls hl => ?_)
            refine lv_goto (tgt := 18) hx hb dX0_purge_59 (by decide) ?_
            exact ih st (row ++ [c0]) α t1 H locs ls hpg hB1 hB2 (Ac_sc hac (by rw [e_t1]; exact Ex_up (by decide))) (Ko_tr hko (by rw [e_t1]; exact Ko_ex (Ex_up (ks := [14]) (by decide)) (by decide))) (by rw [e_t1]; exact h13) (by rw [e_t1]; show Hl (upd (σ 14) (nI row.length).toNatClampNeg c0) _; rw [nI_clamp (by omega)]; exact Hl_push h14 c0) Y (lv_sub hl [3, 4, 2, 0] rfl)
    · have hdd := (Ac_d1 hac h_c hs).1
      refine lv_iload_n hx hb dX0_purge_18 rfl (lv_at hl 2 rfl) ?_
      refine lv_if_le (tgt := 170) hx hb dX0_purge_19 (by decide) (fun c19 => ?_) (fun c19 => ?_)
      · skip
        exact absurd c19 (nI_nle (by simp) (by simp only [List.length_cons]; omega))
      · skip
        refine lv_iinc (v := nI st.length) (lv' := [(3, .int (nI st.length)), (0, .ref o), (2, .int z), (4, .int (nI row.length))]) hx hb dX0_purge_22 hl (k := 2) rfl (pk_m1 _) (by decide) rfl (fun ls hl => ?_)
        refine lv_aload_n hx hb dX0_purge_25 rfl (lv_at hl 1 rfl) ?_
        refine x0_g13 S Y dX0_purge_26 ?_
        refine lv_iload_n hx hb dX0_purge_29 rfl (lv_at hl 0 rfl) ?_
        refine x0_l13 S Y h_k dX0_purge_30 ?_
        refine lv_topi (fun v1 e_v1 => ?_)
        have e9 : c0 = v1 := by rw [e_v1, nI_clamp (by omega)]; exact h_t.symm
        subst e9
        refine lv_istore (lv' := [(5, .int c0), (3, .int (nI st.length)), (0, .ref o), (2, .int z), (4, .int (nI row.length))]) hx hb dX0_purge_31 hl (by decide) rfl (fun ls hl => ?_)
        refine lv_aload_n hx hb dX0_purge_33 rfl (lv_at hl 2 rfl) ?_
        refine x0_g5 S Y dX0_purge_34 ?_
        refine lv_iload hx hb dX0_purge_37 (lv_at hl 0 rfl) ?_
        refine x0_l5 S Y h_c dX0_purge_39 ?_
        refine lv_if_ne (tgt := 62) hx hb dX0_purge_40 (by decide) (fun c40 => ?_) (fun c40 => ?_)
        · skip
          exact absurd hdd c40
        · skip
          refine lv_iload_n hx hb dX0_purge_43 rfl (lv_at hl 3 rfl) ?_
          refine lv_if_ne (tgt := 62) hx hb dX0_purge_44 (by decide) (fun c44 => ?_) (fun c44 => ?_)
          · skip
            refine lv_aload_n hx hb dX0_purge_62 rfl (lv_at hl 2 rfl) ?_
            refine x0_g1 S Y dX0_purge_63 ?_
            refine lv_iload hx hb dX0_purge_66 (lv_at hl 0 rfl) ?_
            refine x0_l1 S Y h_c dX0_purge_68 ?_
            refine lv_topi (fun lc e_lc => ?_)
            refine lv_istore (lv' := [(6, .int lc), (5, .int c0), (3, .int (nI st.length)), (0, .ref o), (2, .int z), (4, .int (nI row.length))]) hx hb dX0_purge_69 hl (by decide) rfl (fun ls hl => ?_)
            refine lv_aload_n hx hb dX0_purge_71 rfl (lv_at hl 3 rfl) ?_
            refine x0_g2 S Y dX0_purge_72 ?_
            refine lv_iload hx hb dX0_purge_75 (lv_at hl 1 rfl) ?_
            refine x0_l2 S Y h_c dX0_purge_77 ?_
            refine lv_topi (fun rc e_rc => ?_)
            refine lv_istore (lv' := [(7, .int rc), (6, .int lc), (5, .int c0), (3, .int (nI st.length)), (0, .ref o), (2, .int z), (4, .int (nI row.length))]) hx hb dX0_purge_78 hl (by decide) rfl (fun ls hl => ?_)
            refine lv_aload_n hx hb dX0_purge_80 rfl (lv_at hl 4 rfl) ?_
            refine x0_g5 S Y dX0_purge_81 ?_
            refine lv_iload hx hb dX0_purge_84 (lv_at hl 2 rfl) ?_
            refine x0_l5 S Y h_c dX0_purge_86 ?_
            refine lv_if_eq (tgt := 99) hx hb dX0_purge_87 (by decide) (fun c87 => ?_) (fun c87 => ?_)
            · skip
              refine lv_aload_n hx hb dX0_purge_99 rfl (lv_at hl 4 rfl) ?_
              refine x0_g1 S Y dX0_purge_100 ?_
              refine lv_iload hx hb dX0_purge_103 (lv_at hl 2 rfl) ?_
              refine lv_iconst (v := (-1)) hx hb dX0_purge_105 (by decide) ?_
              refine x0_s1 S Y h_c dX0_purge_106 (fun t1 H locs e_t1 Y => ?_)
              refine lv_aload_n hx hb dX0_purge_107 rfl (lv_at hl 4 rfl) ?_
              refine x0_g2 S Y dX0_purge_108 ?_
              refine lv_iload hx hb dX0_purge_111 (lv_at hl 2 rfl) ?_
              refine lv_iconst (v := (-1)) hx hb dX0_purge_113 (by decide) ?_
              refine x0_s2 S Y h_c dX0_purge_114 (fun t2 H locs e_t2 Y => ?_)
              refine lv_aload_n hx hb dX0_purge_115 rfl (lv_at hl 4 rfl) ?_
              refine x0_g3 S Y dX0_purge_116 ?_
              refine lv_iload hx hb dX0_purge_119 (lv_at hl 2 rfl) ?_
              refine lv_iconst (v := 1) hx hb dX0_purge_121 (by decide) ?_
              refine x0_s3 S Y h_c dX0_purge_122 (fun t3 H locs e_t3 Y => ?_)
              refine lv_aload_n hx hb dX0_purge_123 rfl (lv_at hl 4 rfl) ?_
              refine x0_g14 S Y dX0_purge_124 ?_
              refine lv_iload hx hb dX0_purge_127 (lv_at hl 6 rfl) ?_
              refine lv_iload hx hb dX0_purge_129 (lv_at hl 2 rfl) ?_
              refine x0_s14 S Y h_r dX0_purge_131 (fun t4 H locs e_t4 Y => ?_)
              refine lv_iinc (v := nI (row ++ [c0]).length) (lv' := [(4, .int (nI (row ++ [c0]).length)), (7, .int rc), (6, .int lc), (5, .int c0), (3, .int (nI st.length)), (0, .ref o), (2, .int z)]) hx hb dX0_purge_132 hl (k := 6) rfl (by rw [List.length_append, List.length_singleton]; exact nI_1 _) (by decide) rfl (fun ls hl => ?_)
              have hE : Ex [14] (alone c0 σ) t4 := by rw [e_t4, e_t3, e_t2, e_t1]; exact Ex_up (by decide)
              have h14' : Hl (t4 14) (row ++ [c0]) := by rw [e_t4, e_t3, e_t2, e_t1]; show Hl (upd (σ 14) (nI row.length).toNatClampNeg c0) _; rw [nI_clamp (by omega)]; exact Hl_push h14 c0
              refine x0_pt (σ0 := t4) (st := st) S hA hst (by rw [hE 13 (by decide)]; exact h13) ?_ H locs ls Y (lv_sub hl [5, 6, 4, 0, 2, 1] rfl)
              intro σ1 H locs ls hE1 h131 Y hl
              obtain ⟨b1, b2⟩ := alone_Bd (c := c0) hB1 hB2
              exact ih _ (row ++ [c0]) (alone c0 α) σ1 H locs ls (by rw [e_lc, e_rc, a1, a2]; exact hpg) b1 b2 (Ac_sc (Ac_sc (Ac_alone hac c0) (σ' := t4) (fun k hk => hE k (fun h => hk (List.mem_cons_of_mem _ h)))) (fun k hk => hE1 k (fun h => hk (List.mem_cons.mpr (Or.inl (List.mem_singleton.mp h)))))) (Ko_tr (Ko_tr (Ko_tr hko (b := σ) (c := alone c0 σ) ⟨rfl, rfl, rfl, rfl, rfl, rfl⟩) (Ko_ex hE (by decide))) (Ko_ex hE1 (by decide))) h131 (by rw [hE1 14 (by decide)]; exact h14') Y hl
            · skip
              exact absurd hdd c87
          · skip
            exact absurd c44 hz
    · have hdd := (Ac_d2 hac h_c hs).1
      refine lv_iload_n hx hb dX0_purge_18 rfl (lv_at hl 2 rfl) ?_
      refine lv_if_le (tgt := 170) hx hb dX0_purge_19 (by decide) (fun c19 => ?_) (fun c19 => ?_)
      · skip
        exact absurd c19 (nI_nle (by simp) (by simp only [List.length_cons]; omega))
      · skip
        refine lv_iinc (v := nI st.length) (lv' := [(3, .int (nI st.length)), (0, .ref o), (2, .int z), (4, .int (nI row.length))]) hx hb dX0_purge_22 hl (k := 2) rfl (pk_m1 _) (by decide) rfl (fun ls hl => ?_)
        refine lv_aload_n hx hb dX0_purge_25 rfl (lv_at hl 1 rfl) ?_
        refine x0_g13 S Y dX0_purge_26 ?_
        refine lv_iload_n hx hb dX0_purge_29 rfl (lv_at hl 0 rfl) ?_
        refine x0_l13 S Y h_k dX0_purge_30 ?_
        refine lv_topi (fun v1 e_v1 => ?_)
        have e9 : c0 = v1 := by rw [e_v1, nI_clamp (by omega)]; exact h_t.symm
        subst e9
        refine lv_istore (lv' := [(5, .int c0), (3, .int (nI st.length)), (0, .ref o), (2, .int z), (4, .int (nI row.length))]) hx hb dX0_purge_31 hl (by decide) rfl (fun ls hl => ?_)
        refine lv_aload_n hx hb dX0_purge_33 rfl (lv_at hl 2 rfl) ?_
        refine x0_g5 S Y dX0_purge_34 ?_
        refine lv_iload hx hb dX0_purge_37 (lv_at hl 0 rfl) ?_
        refine x0_l5 S Y h_c dX0_purge_39 ?_
        refine lv_if_ne (tgt := 62) hx hb dX0_purge_40 (by decide) (fun c40 => ?_) (fun c40 => ?_)
        · skip
          refine lv_aload_n hx hb dX0_purge_62 rfl (lv_at hl 2 rfl) ?_
          refine x0_g1 S Y dX0_purge_63 ?_
          refine lv_iload hx hb dX0_purge_66 (lv_at hl 0 rfl) ?_
          refine x0_l1 S Y h_c dX0_purge_68 ?_
          refine lv_topi (fun lc e_lc => ?_)
          refine lv_istore (lv' := [(6, .int lc), (5, .int c0), (3, .int (nI st.length)), (0, .ref o), (2, .int z), (4, .int (nI row.length))]) hx hb dX0_purge_69 hl (by decide) rfl (fun ls hl => ?_)
          refine lv_aload_n hx hb dX0_purge_71 rfl (lv_at hl 3 rfl) ?_
          refine x0_g2 S Y dX0_purge_72 ?_
          refine lv_iload hx hb dX0_purge_75 (lv_at hl 1 rfl) ?_
          refine x0_l2 S Y h_c dX0_purge_77 ?_
          refine lv_topi (fun rc e_rc => ?_)
          refine lv_istore (lv' := [(7, .int rc), (6, .int lc), (5, .int c0), (3, .int (nI st.length)), (0, .ref o), (2, .int z), (4, .int (nI row.length))]) hx hb dX0_purge_78 hl (by decide) rfl (fun ls hl => ?_)
          refine lv_aload_n hx hb dX0_purge_80 rfl (lv_at hl 4 rfl) ?_
          refine x0_g5 S Y dX0_purge_81 ?_
          refine lv_iload hx hb dX0_purge_84 (lv_at hl 2 rfl) ?_
          refine x0_l5 S Y h_c dX0_purge_86 ?_
          refine lv_if_eq (tgt := 99) hx hb dX0_purge_87 (by decide) (fun c87 => ?_) (fun c87 => ?_)
          · skip
            exact absurd (hdd.symm.trans c87) (by decide)
          · skip
            refine lv_aload_n hx hb dX0_purge_90 rfl (lv_at hl 4 rfl) ?_
            refine lv_iload hx hb dX0_purge_91 (lv_at hl 2 rfl) ?_
            refine gCallV (ci := 0) (As := [.int c0]) (rest := []) S (wX0_g dA o q) Y hA (c0_release l D dA o q σ c0 h_c (by rw [hac.2.2.2.2.2.2.1]; exact hf)) (cwV 1 S.2.2.2.2.1 (lw_V q121 q123 qs4 q25 q124) rfl rfl rfl (by decide +kernel) ⟨Nat.le_of_ble_eq_true rfl, Nat.le_of_ble_eq_true rfl⟩) rfl rfl rfl rfl hl.1 rfl (Nat.le_of_ble_eq_true rfl) dX0_purge_93 ⟨Nat.le_refl _, Nat.le_refl _⟩ (fun t1 H locs h_t1 Y => ?_)
            refine lv_goto (tgt := 135) hx hb dX0_purge_96 (by decide) ?_
            refine x0_pt (σ0 := t1) (st := st) S hA hst (by rw [h_t1]; exact h13) ?_ H locs ls Y (lv_sub hl [4, 5, 3, 6, 1, 0] rfl)
            intro σ1 H locs ls hE1 h131 Y hl
            exact ih _ row (letgo c0 α) σ1 H locs ls (by rw [e_lc, e_rc, a1, a2]; exact hpg) hB1 hB2 (Ac_sc (by rw [h_t1]; exact Ac_rel hac c0) (fun k hk => hE1 k (fun h => hk (List.mem_cons.mpr (Or.inl (List.mem_singleton.mp h)))))) (Ko_tr (Ko_tr hko (by rw [h_t1]; exact ⟨rfl, rfl, rfl, rfl, rfl, rfl⟩)) (Ko_ex hE1 (by decide))) h131 (by rw [hE1 14 (by decide), h_t1]; exact h14) Y hl
        · skip
          exact absurd (hdd.symm.trans c40) (by decide)
set_option maxHeartbeats 4000000 in
set_option maxRecDepth 100000 in
/-- LeftistHeaps.purge -/
theorem c0_purge (l : Launch) (D : va_G) (dA : Nat → ClassId) (o : Nat) (q : Nat → Nat) (σ : CS) (α : CS) (top z r : Int32) (α' : CS) (hac : Ac α σ) (hpu : Pu α top z r α') : gMi l D (wX0 dA o q) (tX0 dA) yX0_purge cX0_purge 8 (some .int) { frames := 3, cells := 0, slots := 0, locals := 74 } [.ref o, .int top, .int z] σ (fun r' σ' => r' = r ∧ Ac α' σ' ∧ Ko σ σ') := by
  intro sz
  refine gEnter (own := RX0) (lv := [(0, .ref o), (1, .int top), (2, .int z)]) (wX0_g dA o q) (by decide) rfl (Nat.le_of_ble_eq_true rfl) rfl (fun p e s m below meth c ls S hA Y hl => ?_)
  have hx := S.1
  have hb := S.2.1
  obtain ⟨h_p, hB1, hB2, n, row, α1, K, hpg, hlen, hmr⟩ := hpu
  refine lv_iconst (v := 0) hx hb dX0_purge_0 (by decide) ?_
  refine lv_istore_n (lv' := [(3, .int 0), (0, .ref o), (1, .int top), (2, .int z)]) hx hb dX0_purge_1 rfl hl (by decide) rfl (fun ls hl => ?_)
  refine lv_iconst (v := 0) hx hb dX0_purge_2 (by decide) ?_
  refine lv_istore (lv' := [(4, .int 0), (3, .int 0), (0, .ref o), (1, .int top), (2, .int z)]) hx hb dX0_purge_3 hl (by decide) rfl (fun ls hl => ?_)
  refine lv_iload_n hx hb dX0_purge_5 rfl (lv_at hl 3 rfl) ?_
  refine lv_if_lt (tgt := 18) hx hb dX0_purge_6 (by decide) (fun c6 => ?_) (fun c6 => ?_)
  · skip
    refine x0_pg (σ0 := σ) (α1 := α1) (z := z) (row1 := row) S hA ?_ n [] [] α σ _ _ ls (by rw [if_pos c6] at hpg; exact hpg) hB1 hB2 hac (Ko_rf _) (Hl_nil _) (Hl_nil _) Y (lv_sub hl [2, 4, 1, 0] rfl)
    intro σ1 H locs ls hac1 hko1 h141 Y hl
    refine lv_aload_n hx hb dX0_purge_170 rfl (lv_at hl 0 rfl) ?_
    refine lv_iload hx hb dX0_purge_171 (lv_at hl 1 rfl) ?_
    refine gCallI (ci := 0) (As := [.int (nI row.length)]) (rest := []) S (wX0_g dA o q) Y hA (c0_meldRow l D dA o q σ1 α1 row r α' K hac1 h141 hlen hmr) (cwV 1 S.2.2.2.2.1 (lw_V q125 q127 qs5 q25 q128) rfl rfl rfl (by decide +kernel) ⟨Nat.le_of_ble_eq_true rfl, Nat.le_of_ble_eq_true rfl⟩) rfl rfl rfl rfl hl.1 rfl (Nat.le_of_ble_eq_true rfl) dX0_purge_173 ⟨Nat.le_refl _, Nat.le_refl _⟩ (fun r9 t9 H locs h_t9 Y => ?_)
    exact gIret S Y rfl (⟨h_t9.1, h_t9.2.1, Ko_tr hko1 h_t9.2.2⟩) dX0_purge_176
  · skip
    refine lv_aload_n hx hb dX0_purge_9 rfl (lv_at hl 2 rfl) ?_
    refine x0_g13 S Y dX0_purge_10 ?_
    refine lv_iconst (v := 0) hx hb dX0_purge_13 (by decide) ?_
    refine lv_iload_n hx hb dX0_purge_14 rfl (lv_at hl 3 rfl) ?_
    refine x0_s13 S Y (vp0 (by decide) (by decide)) dX0_purge_15 (fun t1 H locs e_t1 Y => ?_)
    refine lv_iconst (v := 1) hx hb dX0_purge_16 (by decide) ?_
    refine lv_istore_n (lv' := [(3, .int 1), (4, .int 0), (0, .ref o), (1, .int top), (2, .int z)]) hx hb dX0_purge_17 rfl hl (by decide) rfl (fun ls hl => ?_)
    refine x0_pg (σ0 := σ) (α1 := α1) (z := z) (row1 := row) S hA ?_ n [top] [] α t1 _ _ ls (by rw [if_neg c6] at hpg; exact hpg) hB1 hB2 (Ac_sc hac (by rw [e_t1]; exact Ex_up (by decide))) (by rw [e_t1]; exact Ko_ex (Ex_up (ks := [13]) (by decide)) (by decide)) (by rw [e_t1]; exact Hl_push (l := []) (Hl_nil _) top) (Hl_nil _) Y (lv_sub hl [2, 4, 0, 1] rfl)
    intro σ1 H locs ls hac1 hko1 h141 Y hl
    refine lv_aload_n hx hb dX0_purge_170 rfl (lv_at hl 0 rfl) ?_
    refine lv_iload hx hb dX0_purge_171 (lv_at hl 1 rfl) ?_
    refine gCallI (ci := 0) (As := [.int (nI row.length)]) (rest := []) S (wX0_g dA o q) Y hA (c0_meldRow l D dA o q σ1 α1 row r α' K hac1 h141 hlen hmr) (cwV 1 S.2.2.2.2.1 (lw_V q125 q127 qs5 q25 q128) rfl rfl rfl (by decide +kernel) ⟨Nat.le_of_ble_eq_true rfl, Nat.le_of_ble_eq_true rfl⟩) rfl rfl rfl rfl hl.1 rfl (Nat.le_of_ble_eq_true rfl) dX0_purge_173 ⟨Nat.le_refl _, Nat.le_refl _⟩ (fun r9 t9 H locs h_t9 Y => ?_)
    exact gIret S Y rfl (⟨h_t9.1, h_t9.2.1, Ko_tr hko1 h_t9.2.2⟩) dX0_purge_176
end
section
def mld0 (d s : Int32) (σ : CS) : CS := ntok s (va_up (va_up σ 7 (upd (upd (σ 7) d.toNatClampNeg (σ 7 d.toNatClampNeg + σ 7 s.toNatClampNeg)) s.toNatClampNeg 0)) 9 (upd (σ 9) (σ 11 s.toNatClampNeg).toNatClampNeg (σ 11 d.toNatClampNeg)))
def ins0 (h c : Int32) (σ : CS) : CS := va_up (va_up σ 8 (upd (σ 8) c.toNatClampNeg (σ 11 h.toNatClampNeg))) 7 (upd (σ 7) h.toNatClampNeg (σ 7 h.toNatClampNeg + 1))
def dmn0 (h : Int32) (σ : CS) : CS := va_up σ 7 (upd (σ 7) h.toNatClampNeg (σ 7 h.toNatClampNeg - 1))
def del0 (ld : Nat → Int32) (h : Int32) (σ : CS) : CS := dmn0 h (va_up σ 9 ld)
def Nd (α : CS) (x w ow r : Int32) : Prop := (¬ (vp_in x 60 ∧ ¬ α 4 x.toNatClampNeg = 0 ∧ 0 ≤ w ∧ w ≤ 4) ∧ r = -1) ∨ ((vp_in x 60 ∧ ¬ α 4 x.toNatClampNeg = 0 ∧ 0 ≤ w ∧ w ≤ 4) ∧
  ((w = 0 ∧ r = α 1 x.toNatClampNeg) ∨ (w = 1 ∧ r = α 2 x.toNatClampNeg) ∨ (w = 2 ∧ r = α 3 x.toNatClampNeg) ∨ (w = 3 ∧ r = if α 4 x.toNatClampNeg = 1 then 1 else 0) ∨ ((¬ w = 0 ∧ ¬ w = 1 ∧ ¬ w = 2 ∧ ¬ w = 3) ∧ r = ow)))
theorem Nd_fun {α : CS} {x w ow r r' : Int32} (h : Nd α x w ow r) (h' : Nd α x w ow r') : r = r' := by
  have n01 : ¬ (0 : Int32) = 1 := by decide
  have n02 : ¬ (0 : Int32) = 2 := by decide
  have n03 : ¬ (0 : Int32) = 3 := by decide
  have n12 : ¬ (1 : Int32) = 2 := by decide
  have n13 : ¬ (1 : Int32) = 3 := by decide
  have n23 : ¬ (2 : Int32) = 3 := by decide
  rcases h with ⟨h1, h2⟩ | ⟨h1, h2⟩ <;> rcases h' with ⟨g1, g2⟩ | ⟨g1, g2⟩
  · rw [h2, g2]
  · exact absurd g1 h1
  · exact absurd h1 g1
  · rcases h2 with ⟨a, b⟩ | ⟨a, b⟩ | ⟨a, b⟩ | ⟨a, b⟩ | ⟨a, b⟩ <;> rcases g2 with ⟨c, d⟩ | ⟨c, d⟩ | ⟨c, d⟩ | ⟨c, d⟩ | ⟨c, d⟩ <;> first | (rw [b, d]; done) | (exfalso; rw [a] at c; revert c; first | (exact n01) | (exact n02) | (exact n03) | (exact n12) | (exact n13) | (exact n23) | (exact fun q => n01 q.symm) | (exact fun q => n02 q.symm) | (exact fun q => n03 q.symm) | (exact fun q => n12 q.symm) | (exact fun q => n13 q.symm) | (exact fun q => n23 q.symm)) | (exfalso; exact c.1 a) | (exfalso; exact c.2.1 a) | (exfalso; exact c.2.2.1 a) | (exfalso; exact c.2.2.2 a) | (exfalso; exact a.1 c) | (exfalso; exact a.2.1 c) | (exfalso; exact a.2.2.1 c) | (exfalso; exact a.2.2.2 c)
theorem Ac_new {α σ : CS} (h : Ac α σ) (c k : Int32) : Ac (take c k α) (alone c (va_up (va_up (va_up (va_up σ 15 (fun _ => σ 15 0 - 1)) 0 (upd (σ 0) c.toNatClampNeg k)) 4 (upd (σ 4) c.toNatClampNeg 1)) 5 (upd (σ 5) c.toNatClampNeg 0))) := by
  refine Ac_alone ?_ c
  obtain ⟨a0, a1, a2, a3, a4, a5, a6, a7, a8⟩ := h
  refine ⟨?_, a1, a2, a3, fun i hi => ?_, a5, ?_, a7, a8⟩
  · show upd (σ 0) _ _ = upd (α 0) _ _; rw [a0]
  · show (upd (α 4) c.toNatClampNeg 1 i = 0 ∧ upd (σ 4) c.toNatClampNeg 1 i = 0) ∨ (upd (α 4) c.toNatClampNeg 1 i = 1 ∧ upd (σ 4) c.toNatClampNeg 1 i = 1 ∧ upd (σ 5) c.toNatClampNeg 0 i = 0) ∨ (upd (α 4) c.toNatClampNeg 1 i = 2 ∧ upd (σ 4) c.toNatClampNeg 1 i = 1 ∧ upd (σ 5) c.toNatClampNeg 0 i = 1)
    by_cases e : i = c.toNatClampNeg
    · rw [e, pk_us, pk_us, pk_us]; exact Or.inr (Or.inl ⟨rfl, rfl, rfl⟩)
    · rw [pk_un e, pk_un e, pk_un e]; exact a4 i hi
  · show σ 15 0 - 1 = α 6 0 - 1
    rw [a6]
theorem Ac_del {α σ : CS} (h : Ac α σ) (c : Int32) (h1 : α 4 c.toNatClampNeg = 1) (hc : vp_in c 60) : Ac (va_up α 4 (upd (α 4) c.toNatClampNeg 2)) (va_up σ 5 (upd (σ 5) c.toNatClampNeg 1)) := by
  have hu := (Ac_d1 h hc h1).2
  obtain ⟨a0, a1, a2, a3, a4, a5, a6, a7, a8⟩ := h
  refine ⟨a0, a1, a2, a3, fun i hi => ?_, a5, a6, a7, a8⟩
  show (upd (α 4) c.toNatClampNeg 2 i = 0 ∧ σ 4 i = 0) ∨ (upd (α 4) c.toNatClampNeg 2 i = 1 ∧ σ 4 i = 1 ∧ upd (σ 5) c.toNatClampNeg 1 i = 0) ∨ (upd (α 4) c.toNatClampNeg 2 i = 2 ∧ σ 4 i = 1 ∧ upd (σ 5) c.toNatClampNeg 1 i = 1)
  by_cases e : i = c.toNatClampNeg
  · rw [e, pk_us, pk_us]; exact Or.inr (Or.inr ⟨rfl, hu, rfl⟩)
  · rw [pk_un e, pk_un e]; exact a4 i hi
/-- only the class's own fields are touched -/
theorem Ac_own {α σ σ' : CS} (h : Ac α σ) (hE : Ex [7, 8, 9, 10, 11, 13, 14, 17] σ σ') : Ac α σ' := by
  unfold Ac
  rw [hE 0 (by decide), hE 1 (by decide), hE 2 (by decide), hE 3 (by decide), hE 4 (by decide), hE 5 (by decide), hE 12 (by decide), hE 15 (by decide), hE 6 (by decide), hE 16 (by decide)]
  exact h
theorem isL_iff {α σ : CS} (h : Ac α σ) {x : Int32} : (vp_in x 60 ∧ ¬ σ 4 x.toNatClampNeg = 0 ∧ σ 5 x.toNatClampNeg = 0) ↔ isL α x := by
  constructor
  · rintro ⟨hx, h4, h5⟩
    refine ⟨hx, ?_⟩
    rcases Ac_cell h hx with ⟨-, e⟩ | ⟨e, -⟩ | ⟨-, -, e⟩
    · exact absurd e h4
    · exact e
    · rw [h5] at e; exact absurd e (by decide)
  · rintro ⟨hx, h1⟩
    obtain ⟨a, b⟩ := Ac_d1 h hx h1
    exact ⟨hx, by rw [b]; decide, a⟩
theorem Ac_used {α σ : CS} (h : Ac α σ) {x : Int32} (hx : vp_in x 60) : σ 4 x.toNatClampNeg = 0 ↔ α 4 x.toNatClampNeg = 0 := by
  rcases Ac_cell h hx with ⟨a, b⟩ | ⟨a, b, -⟩ | ⟨a, b, -⟩
  · rw [a, b]
  · rw [a, b]
  · rw [a, b]; decide
end
section
set_option maxHeartbeats 4000000 in
set_option maxRecDepth 100000 in
/-- LeftistHeaps.clearAll: its loop -/
theorem x0_cl {p : Program} {l : Launch} {e : Env} {s : State} {m : MethodId} {args : Array Value} {below : List Frame} {meth : Method} {c : Code} {Q : State → Prop} {D : va_G} {dA : Nat → ClassId} {o : Nat} {q : Nat → Nat} {A : Nat → Prop} {H0 : Heap} {σ0 α' : CS} {nh : Nat} (S : gS p s m meth c cX0_clearAll 2 args RX0 none D (tX0 dA)) (hA : ∀ q, H0.size ≤ q → A q) (hnh : nh ≤ 10) (kk : ∀ (σ : CS) (H : Heap) (locs : List Loc) (ls : Array Slot), Ac α' σ → Ko σ0 σ → gP D (wX0 dA o q) A H0 σ H locs → W p l e { frames := 4, cells := 0, slots := 0, locals := 101 } s m args below meth c H locs 0 0 Q (F0 m 33 ls [])) : ∀ (n h : Nat) (α σ : CS) (H : Heap) (locs : List Loc) (ls : Array Slot), Cl n h α α' → h + n = nh → α 8 0 = nI nh → Ac α σ → Ko σ0 σ → gP D (wX0 dA o q) A H0 σ H locs → lv_has ls 2 [(0, .ref o), (1, .int (nI h))] → W p l e { frames := 4, cells := 0, slots := 0, locals := 101 } s m args below meth c H locs 0 0 Q (F0 m 2 ls []) := by
  have hx := S.1
  have hb := S.2.1
  intro n
  induction n with
  | zero =>
    intro h α σ H locs ls hcl hh e8 hac hko Y hl
    have a8 := hac.2.2.2.2.2.2.2.2
    refine lv_iload_n hx hb dX0_clearAll_2 rfl (lv_at hl 1 rfl) ?_
    refine lv_aload_n hx hb dX0_clearAll_3 rfl (lv_at hl 0 rfl) ?_
    refine x0_g16 S Y dX0_clearAll_4 ?_
    refine lv_icmp_ge (tgt := 33) hx hb dX0_clearAll_7 (by decide) (fun c7 => ?_) (fun c7 => ?_)
    · skip
      exact kk σ H locs ls (by rw [show α' = α from hcl]; exact hac) hko Y
    · skip
      exact absurd (by rw [a8, e8]; exact nI_le (by omega) (by omega)) c7
  | succ n ih =>
    intro h α σ H locs ls hcl hh e8 hac hko Y hl
    obtain ⟨r, α1, hpu, hcl⟩ := hcl
    have a7 := hac.2.2.2.2.2.2.2.1
    have a8 := hac.2.2.2.2.2.2.2.2
    have h_h : vp_in (nI h) 10 := vp_in_nI (by omega) (by decide)
    refine lv_iload_n hx hb dX0_clearAll_2 rfl (lv_at hl 1 rfl) ?_
    refine lv_aload_n hx hb dX0_clearAll_3 rfl (lv_at hl 0 rfl) ?_
    refine x0_g16 S Y dX0_clearAll_4 ?_
    refine lv_icmp_ge (tgt := 33) hx hb dX0_clearAll_7 (by decide) (fun c7 => ?_) (fun c7 => ?_)
    · skip
      exact absurd c7 (by rw [a8, e8]; exact nI_ge (by omega) (by omega))
    · skip
      refine lv_aload_n hx hb dX0_clearAll_10 rfl (lv_at hl 0 rfl) ?_
      refine x0_g6 S Y dX0_clearAll_11 ?_
      refine lv_iload_n hx hb dX0_clearAll_14 rfl (lv_at hl 1 rfl) ?_
      refine lv_aload_n hx hb dX0_clearAll_15 rfl (lv_at hl 0 rfl) ?_
      refine lv_aload_n hx hb dX0_clearAll_16 rfl (lv_at hl 0 rfl) ?_
      refine x0_g6 S Y dX0_clearAll_17 ?_
      refine lv_iload_n hx hb dX0_clearAll_20 rfl (lv_at hl 1 rfl) ?_
      refine x0_l6 S Y h_h dX0_clearAll_21 ?_
      refine lv_topi (fun v1 e_v1 => ?_)
      have e9 : (α 7 h) = v1 := by rw [e_v1, a7, nI_clamp (by omega)]
      subst e9
      refine lv_iconst (v := 1) hx hb dX0_clearAll_22 (by decide) ?_
      refine gCallI (ci := 0) (As := [.int (α 7 h), .int 1]) (rest := [.int (nI h), .ref (q 6)]) S (wX0_g dA o q) Y hA (c0_purge l D dA o q σ α (α 7 h) 1 r α1 hac hpu) (cwV 2 S.2.2.2.2.1 (lw_V q117 q119 qs3 q25 q120) rfl rfl rfl (by decide +kernel) ⟨Nat.le_of_ble_eq_true rfl, Nat.le_of_ble_eq_true rfl⟩) rfl rfl rfl rfl hl.1 rfl (Nat.le_of_ble_eq_true rfl) dX0_clearAll_23 ⟨Nat.le_refl _, Nat.le_refl _⟩ (fun r1 t1 H locs h_t1 Y => ?_)
      obtain ⟨e_r1, hac1, hko1⟩ := h_t1
      rw [e_r1]
      refine x0_s6 S Y h_h dX0_clearAll_26 (fun t2 H locs e_t2 Y => ?_)
      refine lv_iinc (v := nI (h + 1)) (lv' := [(1, .int (nI (h + 1))), (0, .ref o)]) hx hb dX0_clearAll_27 hl (k := 1) rfl (nI_1 _) (by decide) rfl (fun ls hl => ?_)
      refine lv_goto (tgt := 2) hx hb dX0_clearAll_30 (by decide) ?_
      exact ih (h + 1) (va_up α1 7 (upd (α1 7) h r)) t2 H locs ls hcl (by omega) (by show α1 8 0 = _; rw [Pu_ex hpu (Or.inr (Or.inr rfl))]; exact e8) (by rw [e_t2, nI_clamp (by omega)]; exact Ac_top hac1 h r) (Ko_tr hko (Ko_tr hko1 (by rw [e_t2]; exact ⟨rfl, rfl, rfl, rfl, rfl, rfl⟩))) Y (lv_sub hl [1, 0] rfl)
set_option maxHeartbeats 4000000 in
set_option maxRecDepth 100000 in
/-- LeftistHeaps.clearAll -/
theorem c0_clearAll (l : Launch) (D : va_G) (dA : Nat → ClassId) (o : Nat) (q : Nat → Nat) (σ : CS) (α α' : CS) (nh : Nat) (hnh : nh ≤ 10) (e8 : α 8 0 = nI nh) (hac : Ac α σ) (hcl : Cl nh 0 α α') : gMv l D (wX0 dA o q) (tX0 dA) yX0_clearAll cX0_clearAll 2 none { frames := 4, cells := 0, slots := 0, locals := 101 } [.ref o] σ (fun σ' => Ac α' σ' ∧ Ko σ σ') := by
  intro sz
  refine gEnter (own := RX0) (lv := [(0, .ref o)]) (wX0_g dA o q) (by decide) rfl (Nat.le_of_ble_eq_true rfl) rfl (fun p e s m below meth c ls S hA Y hl => ?_)
  have hx := S.1
  have hb := S.2.1
  refine lv_iconst (v := 0) hx hb dX0_clearAll_0 (by decide) ?_
  refine lv_istore_n (lv' := [(1, .int 0), (0, .ref o)]) hx hb dX0_clearAll_1 rfl hl (by decide) rfl (fun ls hl => ?_)
  refine x0_cl (σ0 := σ) (nh := nh) S hA hnh ?_ nh 0 α σ _ _ ls hcl (Nat.zero_add _) e8 hac (Ko_rf _) Y (lv_sub hl [1, 0] rfl)
  intro σ1 H locs ls hac hko Y
  exact gVret S Y (⟨hac, hko⟩) dX0_clearAll_33
set_option maxHeartbeats 4000000 in
set_option maxRecDepth 100000 in
/-- LeftistHeaps.purgeTop -/
theorem c0_purgeTop (l : Launch) (D : va_G) (dA : Nat → ClassId) (o : Nat) (q : Nat → Nat) (σ : CS) (α : CS) (h : Int32) (α' : CS) (hac : Ac α σ) (ht : Tp α h α') : gMv l D (wX0 dA o q) (tX0 dA) yX0_purgeTop cX0_purgeTop 2 none { frames := 4, cells := 0, slots := 0, locals := 101 } [.ref o, .int h] σ (fun σ' => Ac α' σ' ∧ Ko σ σ') := by
  intro sz
  refine gEnter (own := RX0) (lv := [(0, .ref o), (1, .int h)]) (wX0_g dA o q) (by decide) rfl (Nat.le_of_ble_eq_true rfl) rfl (fun p e s m below meth c ls S hA Y hl => ?_)
  have hx := S.1
  have hb := S.2.1
  obtain ⟨h_h, h_p, ht⟩ := ht
  have a7 := hac.2.2.2.2.2.2.2.1
  rcases ht with ⟨hc, e9⟩ | ⟨hc, hs, e9⟩ | ⟨hc, hs, r, α1, hpu, e9⟩
  · skip
    refine lv_aload_n hx hb dX0_purgeTop_0 rfl (lv_at hl 0 rfl) ?_
    refine x0_g6 S Y dX0_purgeTop_1 ?_
    refine lv_iload_n hx hb dX0_purgeTop_4 rfl (lv_at hl 1 rfl) ?_
    refine x0_l6 S Y h_h dX0_purgeTop_5 ?_
    refine lv_topi (fun v1 e_v1 => ?_)
    have e9 : (α 7 h.toNatClampNeg) = v1 := by rw [e_v1, a7]
    subst e9
    refine lv_if_lt (tgt := 40) hx hb dX0_purgeTop_6 (by decide) (fun c6 => ?_) (fun c6 => ?_)
    · skip
      exact gVret S Y (⟨by rw [e9]; exact hac, Ko_rf _⟩) dX0_purgeTop_40
    · skip
      exact absurd hc c6
  · have hdd := (Ac_d1 hac (Pt_in h_p hc) hs).1
    refine lv_aload_n hx hb dX0_purgeTop_0 rfl (lv_at hl 0 rfl) ?_
    refine x0_g6 S Y dX0_purgeTop_1 ?_
    refine lv_iload_n hx hb dX0_purgeTop_4 rfl (lv_at hl 1 rfl) ?_
    refine x0_l6 S Y h_h dX0_purgeTop_5 ?_
    refine lv_topi (fun v1 e_v1 => ?_)
    have e9 : (α 7 h.toNatClampNeg) = v1 := by rw [e_v1, a7]
    subst e9
    refine lv_if_lt (tgt := 40) hx hb dX0_purgeTop_6 (by decide) (fun c6 => ?_) (fun c6 => ?_)
    · skip
      exact absurd c6 hc
    · skip
      refine lv_aload_n hx hb dX0_purgeTop_9 rfl (lv_at hl 0 rfl) ?_
      refine x0_g5 S Y dX0_purgeTop_10 ?_
      refine lv_aload_n hx hb dX0_purgeTop_13 rfl (lv_at hl 0 rfl) ?_
      refine x0_g6 S Y dX0_purgeTop_14 ?_
      refine lv_iload_n hx hb dX0_purgeTop_17 rfl (lv_at hl 1 rfl) ?_
      refine x0_l6 S Y h_h dX0_purgeTop_18 ?_
      refine lv_topi (fun v2 e_v2 => ?_)
      have e9 : (α 7 h.toNatClampNeg) = v2 := by rw [e_v2, a7]
      subst e9
      refine x0_l5 S Y (Pt_in h_p hc) dX0_purgeTop_19 ?_
      refine lv_if_eq (tgt := 40) hx hb dX0_purgeTop_20 (by decide) (fun c20 => ?_) (fun c20 => ?_)
      · skip
        exact gVret S Y (⟨by rw [e9]; exact hac, Ko_rf _⟩) dX0_purgeTop_40
      · skip
        exact absurd hdd c20
  · have hdd := (Ac_d2 hac (Pt_in h_p hc) hs).1
    refine lv_aload_n hx hb dX0_purgeTop_0 rfl (lv_at hl 0 rfl) ?_
    refine x0_g6 S Y dX0_purgeTop_1 ?_
    refine lv_iload_n hx hb dX0_purgeTop_4 rfl (lv_at hl 1 rfl) ?_
    refine x0_l6 S Y h_h dX0_purgeTop_5 ?_
    refine lv_topi (fun v1 e_v1 => ?_)
    have e9 : (α 7 h.toNatClampNeg) = v1 := by rw [e_v1, a7]
    subst e9
    refine lv_if_lt (tgt := 40) hx hb dX0_purgeTop_6 (by decide) (fun c6 => ?_) (fun c6 => ?_)
    · skip
      exact absurd c6 hc
    · skip
      refine lv_aload_n hx hb dX0_purgeTop_9 rfl (lv_at hl 0 rfl) ?_
      refine x0_g5 S Y dX0_purgeTop_10 ?_
      refine lv_aload_n hx hb dX0_purgeTop_13 rfl (lv_at hl 0 rfl) ?_
      refine x0_g6 S Y dX0_purgeTop_14 ?_
      refine lv_iload_n hx hb dX0_purgeTop_17 rfl (lv_at hl 1 rfl) ?_
      refine x0_l6 S Y h_h dX0_purgeTop_18 ?_
      refine lv_topi (fun v2 e_v2 => ?_)
      have e9 : (α 7 h.toNatClampNeg) = v2 := by rw [e_v2, a7]
      subst e9
      refine x0_l5 S Y (Pt_in h_p hc) dX0_purgeTop_19 ?_
      refine lv_if_eq (tgt := 40) hx hb dX0_purgeTop_20 (by decide) (fun c20 => ?_) (fun c20 => ?_)
      · skip
        exact absurd (hdd.symm.trans c20) (by decide)
      · skip
        refine lv_aload_n hx hb dX0_purgeTop_23 rfl (lv_at hl 0 rfl) ?_
        refine x0_g6 S Y dX0_purgeTop_24 ?_
        refine lv_iload_n hx hb dX0_purgeTop_27 rfl (lv_at hl 1 rfl) ?_
        refine lv_aload_n hx hb dX0_purgeTop_28 rfl (lv_at hl 0 rfl) ?_
        refine lv_aload_n hx hb dX0_purgeTop_29 rfl (lv_at hl 0 rfl) ?_
        refine x0_g6 S Y dX0_purgeTop_30 ?_
        refine lv_iload_n hx hb dX0_purgeTop_33 rfl (lv_at hl 1 rfl) ?_
        refine x0_l6 S Y h_h dX0_purgeTop_34 ?_
        refine lv_topi (fun v3 e_v3 => ?_)
        have e9 : (α 7 h.toNatClampNeg) = v3 := by rw [e_v3, a7]
        subst e9
        refine lv_iconst (v := 0) hx hb dX0_purgeTop_35 (by decide) ?_
        refine gCallI (ci := 0) (As := [.int (α 7 h.toNatClampNeg), .int 0]) (rest := [.int h, .ref (q 6)]) S (wX0_g dA o q) Y hA (c0_purge l D dA o q σ α (α 7 h.toNatClampNeg) 0 r α1 hac hpu) (cwV 2 S.2.2.2.2.1 (lw_V q117 q119 qs3 q25 q120) rfl rfl rfl (by decide +kernel) ⟨Nat.le_of_ble_eq_true rfl, Nat.le_of_ble_eq_true rfl⟩) rfl rfl rfl rfl hl.1 rfl (Nat.le_of_ble_eq_true rfl) dX0_purgeTop_36 ⟨Nat.le_refl _, Nat.le_refl _⟩ (fun r1 t1 H locs h_t1 Y => ?_)
        obtain ⟨e_r1, hac1, hko1⟩ := h_t1
        rw [e_r1]
        refine x0_s6 S Y h_h dX0_purgeTop_39 (fun t2 H locs e_t2 Y => ?_)
        exact gVret S Y (⟨by rw [e9, e_t2]; exact Ac_top hac1 _ r, Ko_tr hko1 (by rw [e_t2]; exact ⟨rfl, rfl, rfl, rfl, rfl, rfl⟩)⟩) dX0_purgeTop_40
set_option maxHeartbeats 4000000 in
set_option maxRecDepth 100000 in
/-- LeftistHeaps.findMin -/
theorem c0_findMin (l : Launch) (D : va_G) (dA : Nat → ClassId) (o : Nat) (q : Nat → Nat) (σ : CS) (α : CS) (h r : Int32) (α' : CS) (hac : Ac α σ) (hf : Fm α h r α') : gMi l D (wX0 dA o q) (tX0 dA) yX0_findMin cX0_findMin 2 (some .int) { frames := 5, cells := 0, slots := 0, locals := 122 } [.ref o, .int h] σ (fun r' σ' => r' = r ∧ Ac α' σ' ∧ Ko σ σ') := by
  intro sz
  refine gEnter (own := RX0) (lv := [(0, .ref o), (1, .int h)]) (wX0_g dA o q) (by decide) rfl (Nat.le_of_ble_eq_true rfl) rfl (fun p e s m below meth c ls S hA Y hl => ?_)
  have hx := S.1
  have hb := S.2.1
  have a8 := hac.2.2.2.2.2.2.2.2
  rcases hf with ⟨hn, e8, e9⟩ | ⟨hn, ht, e8⟩
  · skip
    refine lv_aload_n hx hb dX0_findMin_0 rfl (lv_at hl 0 rfl) ?_
    refine lv_iload_n hx hb dX0_findMin_1 rfl (lv_at hl 1 rfl) ?_
    refine gCallI (ci := 0) (As := [.int h]) (rest := []) S (wX0_g dA o q) Y hA (c0_isHeap l D dA o q σ h) (cwV 1 S.2.2.2.2.1 (lw_V q109 q111 qs1 q25 q112) rfl rfl rfl (by decide +kernel) ⟨Nat.le_of_ble_eq_true rfl, Nat.le_of_ble_eq_true rfl⟩) rfl rfl rfl rfl hl.1 rfl (Nat.le_of_ble_eq_true rfl) dX0_findMin_2 ⟨Nat.le_refl _, Nat.le_refl _⟩ (fun r1 s1 H locs h_s1 Y => ?_)
    rw [h_s1.1] at Y
    have hz : r1 = 0 := by rcases h_s1.2 with ⟨-, h9⟩ | ⟨h9, -⟩; exact absurd (show isH α h from ⟨h9.1, by rw [← a8]; exact h9.2⟩) hn; exact h9
    refine lv_if_ne (tgt := 10) hx hb dX0_findMin_5 (by decide) (fun c5 => ?_) (fun c5 => ?_)
    · skip
      exact absurd hz c5
    · skip
      refine lv_iconst (v := (-1)) hx hb dX0_findMin_8 (by decide) ?_
      exact gIret S Y rfl (⟨e8.symm, by rw [e9]; exact hac, Ko_rf _⟩) dX0_findMin_9
  · have h_h := ht.1
    refine lv_aload_n hx hb dX0_findMin_0 rfl (lv_at hl 0 rfl) ?_
    refine lv_iload_n hx hb dX0_findMin_1 rfl (lv_at hl 1 rfl) ?_
    refine gCallI (ci := 0) (As := [.int h]) (rest := []) S (wX0_g dA o q) Y hA (c0_isHeap l D dA o q σ h) (cwV 1 S.2.2.2.2.1 (lw_V q109 q111 qs1 q25 q112) rfl rfl rfl (by decide +kernel) ⟨Nat.le_of_ble_eq_true rfl, Nat.le_of_ble_eq_true rfl⟩) rfl rfl rfl rfl hl.1 rfl (Nat.le_of_ble_eq_true rfl) dX0_findMin_2 ⟨Nat.le_refl _, Nat.le_refl _⟩ (fun r1 s1 H locs h_s1 Y => ?_)
    rw [h_s1.1] at Y
    have hz : ¬ r1 = 0 := by rcases h_s1.2 with ⟨h9, -⟩ | ⟨-, h9⟩; rw [h9]; decide; exact absurd (by rw [a8]; exact hn) h9
    refine lv_if_ne (tgt := 10) hx hb dX0_findMin_5 (by decide) (fun c5 => ?_) (fun c5 => ?_)
    · skip
      refine lv_aload_n hx hb dX0_findMin_10 rfl (lv_at hl 0 rfl) ?_
      refine lv_iload_n hx hb dX0_findMin_11 rfl (lv_at hl 1 rfl) ?_
      refine gCallV (ci := 0) (As := [.int h]) (rest := []) S (wX0_g dA o q) Y hA (c0_purgeTop l D dA o q σ α h α' hac ht) (cwV 1 S.2.2.2.2.1 (lw_V q157 q159 qs11 q25 q160) rfl rfl rfl (by decide +kernel) ⟨Nat.le_of_ble_eq_true rfl, Nat.le_of_ble_eq_true rfl⟩) rfl rfl rfl rfl hl.1 rfl (Nat.le_of_ble_eq_true rfl) dX0_findMin_12 ⟨Nat.le_refl _, Nat.le_refl _⟩ (fun t1 H locs h_t1 Y => ?_)
      refine lv_aload_n hx hb dX0_findMin_15 rfl (lv_at hl 0 rfl) ?_
      refine x0_g6 S Y dX0_findMin_16 ?_
      refine lv_iload_n hx hb dX0_findMin_19 rfl (lv_at hl 1 rfl) ?_
      refine x0_l6 S Y h_h dX0_findMin_20 ?_
      exact gIret S Y rfl (⟨by rw [e8, h_t1.1.2.2.2.2.2.2.2.1], h_t1.1, h_t1.2⟩) dX0_findMin_21
    · skip
      exact absurd c5 hz
set_option maxHeartbeats 4000000 in
set_option maxRecDepth 100000 in
/-- LeftistHeaps.deleteMin -/
theorem c0_deleteMin (l : Launch) (D : va_G) (dA : Nat → ClassId) (o : Nat) (q : Nat → Nat) (σ : CS) (α : CS) (h r : Int32) (α' : CS) (hac : Ac α σ) (hd : Dm α h r α') : gMi l D (wX0 dA o q) (tX0 dA) yX0_deleteMin cX0_deleteMin 5 (some .int) { frames := 6, cells := 0, slots := 0, locals := 143 } [.ref o, .int h] σ (fun r' σ' => r' = r ∧ Ac α' σ' ∧ ((r < 0 ∧ Ko σ σ') ∨ (¬ r < 0 ∧ Ko (dmn0 h σ) σ'))) := by
  intro sz
  refine gEnter (own := RX0) (lv := [(0, .ref o), (1, .int h)]) (wX0_g dA o q) (by decide) rfl (Nat.le_of_ble_eq_true rfl) rfl (fun p e s m below meth c ls S hA Y hl => ?_)
  have hx := S.1
  have hb := S.2.1
  obtain ⟨c0, α1, hf, hd⟩ := hd
  rcases hd with ⟨hc, e7, e8, e9⟩ | ⟨hc, e8, h_h, h_c, h_f, r2, α2, hmd, e9⟩
  · skip
    refine lv_aload_n hx hb dX0_deleteMin_0 rfl (lv_at hl 0 rfl) ?_
    refine lv_iload_n hx hb dX0_deleteMin_1 rfl (lv_at hl 1 rfl) ?_
    refine gCallI (ci := 0) (As := [.int h]) (rest := []) S (wX0_g dA o q) Y hA (c0_findMin l D dA o q σ α h c0 α1 hac hf) (cwV 1 S.2.2.2.2.1 (lw_V q165 q154 q155 q25 q156) rfl rfl rfl (by decide +kernel) ⟨Nat.le_of_ble_eq_true rfl, Nat.le_of_ble_eq_true rfl⟩) rfl rfl rfl rfl hl.1 rfl (Nat.le_of_ble_eq_true rfl) dX0_deleteMin_2 ⟨Nat.le_refl _, Nat.le_refl _⟩ (fun r1 t1 H locs h_t1 Y => ?_)
    obtain ⟨e_r1, hac1, hko1⟩ := h_t1
    rw [e_r1]
    refine lv_istore_n (lv' := [(2, .int c0), (0, .ref o), (1, .int h)]) hx hb dX0_deleteMin_5 rfl hl (by decide) rfl (fun ls hl => ?_)
    refine lv_iload_n hx hb dX0_deleteMin_6 rfl (lv_at hl 0 rfl) ?_
    refine lv_if_ge (tgt := 12) hx hb dX0_deleteMin_7 (by decide) (fun c7 => ?_) (fun c7 => ?_)
    · skip
      exact absurd hc (ge0.mp c7)
    · skip
      refine lv_iconst (v := (-1)) hx hb dX0_deleteMin_10 (by decide) ?_
      exact gIret S Y rfl (⟨e8.symm, by rw [e9]; exact hac1, Or.inl ⟨by rw [e8]; exact m1_neg, hko1⟩⟩) dX0_deleteMin_11
  · skip
    refine lv_aload_n hx hb dX0_deleteMin_0 rfl (lv_at hl 0 rfl) ?_
    refine lv_iload_n hx hb dX0_deleteMin_1 rfl (lv_at hl 1 rfl) ?_
    refine gCallI (ci := 0) (As := [.int h]) (rest := []) S (wX0_g dA o q) Y hA (c0_findMin l D dA o q σ α h c0 α1 hac hf) (cwV 1 S.2.2.2.2.1 (lw_V q165 q154 q155 q25 q156) rfl rfl rfl (by decide +kernel) ⟨Nat.le_of_ble_eq_true rfl, Nat.le_of_ble_eq_true rfl⟩) rfl rfl rfl rfl hl.1 rfl (Nat.le_of_ble_eq_true rfl) dX0_deleteMin_2 ⟨Nat.le_refl _, Nat.le_refl _⟩ (fun r1 t1 H locs h_t1 Y => ?_)
    obtain ⟨e_r1, hac1, hko1⟩ := h_t1
    rw [e_r1]
    refine lv_istore_n (lv' := [(2, .int c0), (0, .ref o), (1, .int h)]) hx hb dX0_deleteMin_5 rfl hl (by decide) rfl (fun ls hl => ?_)
    refine lv_iload_n hx hb dX0_deleteMin_6 rfl (lv_at hl 0 rfl) ?_
    refine lv_if_ge (tgt := 12) hx hb dX0_deleteMin_7 (by decide) (fun c7 => ?_) (fun c7 => ?_)
    · skip
      refine lv_aload_n hx hb dX0_deleteMin_12 rfl (lv_at hl 1 rfl) ?_
      refine x0_g1 S Y dX0_deleteMin_13 ?_
      refine lv_iload_n hx hb dX0_deleteMin_16 rfl (lv_at hl 0 rfl) ?_
      refine x0_l1 S Y h_c dX0_deleteMin_17 ?_
      refine lv_topi (fun lc e_lc => ?_)
      refine lv_istore_n (lv' := [(3, .int lc), (2, .int c0), (0, .ref o), (1, .int h)]) hx hb dX0_deleteMin_18 rfl hl (by decide) rfl (fun ls hl => ?_)
      refine lv_aload_n hx hb dX0_deleteMin_19 rfl (lv_at hl 2 rfl) ?_
      refine x0_g2 S Y dX0_deleteMin_20 ?_
      refine lv_iload_n hx hb dX0_deleteMin_23 rfl (lv_at hl 1 rfl) ?_
      refine x0_l2 S Y h_c dX0_deleteMin_24 ?_
      refine lv_topi (fun rc e_rc => ?_)
      refine lv_istore (lv' := [(4, .int rc), (3, .int lc), (2, .int c0), (0, .ref o), (1, .int h)]) hx hb dX0_deleteMin_25 hl (by decide) rfl (fun ls hl => ?_)
      refine lv_aload_n hx hb dX0_deleteMin_27 rfl (lv_at hl 3 rfl) ?_
      refine lv_iload_n hx hb dX0_deleteMin_28 rfl (lv_at hl 2 rfl) ?_
      refine gCallV (ci := 0) (As := [.int c0]) (rest := []) S (wX0_g dA o q) Y hA (c0_release l D dA o q t1 c0 h_c (by rw [hac1.2.2.2.2.2.2.1]; exact h_f)) (cwV 1 S.2.2.2.2.1 (lw_V q121 q123 qs4 q25 q124) rfl rfl rfl (by decide +kernel) ⟨Nat.le_of_ble_eq_true rfl, Nat.le_of_ble_eq_true rfl⟩) rfl rfl rfl rfl hl.1 rfl (Nat.le_of_ble_eq_true rfl) dX0_deleteMin_29 ⟨Nat.le_refl _, Nat.le_refl _⟩ (fun t2 H locs h_t2 Y => ?_)
      have hac2 : Ac (letgo c0 α1) t2 := by rw [h_t2]; exact Ac_rel hac1 c0
      have hko2 : Ko t1 t2 := by rw [h_t2]; exact ⟨rfl, rfl, rfl, rfl, rfl, rfl⟩
      refine lv_aload_n hx hb dX0_deleteMin_32 rfl (lv_at hl 3 rfl) ?_
      refine x0_g7 S Y dX0_deleteMin_33 ?_
      refine lv_iload_n hx hb dX0_deleteMin_36 rfl (lv_at hl 4 rfl) ?_
      refine lv_dup2_11 hx hb dX0_deleteMin_37 rfl rfl ?_
      refine x0_l7 S Y h_h dX0_deleteMin_38 ?_
      refine lv_iconst (v := 1) hx hb dX0_deleteMin_39 (by decide) ?_
      refine lv_isub hx hb dX0_deleteMin_40 ?_
      refine x0_s7 S Y h_h dX0_deleteMin_41 (fun t3 H locs e_t3 Y => ?_)
      refine lv_aload_n hx hb dX0_deleteMin_42 rfl (lv_at hl 3 rfl) ?_
      refine x0_g6 S Y dX0_deleteMin_43 ?_
      refine lv_iload_n hx hb dX0_deleteMin_46 rfl (lv_at hl 4 rfl) ?_
      refine lv_aload_n hx hb dX0_deleteMin_47 rfl (lv_at hl 3 rfl) ?_
      refine lv_iload_n hx hb dX0_deleteMin_48 rfl (lv_at hl 1 rfl) ?_
      refine lv_iload hx hb dX0_deleteMin_49 (lv_at hl 0 rfl) ?_
      refine gCallI (ci := 0) (As := [.int lc, .int rc]) (rest := [.int h, .ref (q 6)]) S (wX0_g dA o q) Y hA (c0_meldTops l D dA o q t3 (letgo c0 α1) lc rc r2 α2 (Ac_own hac2 (by rw [e_t3]; exact Ex_up (by decide))) (by rw [e_lc, e_rc, hac1.2.1, hac1.2.2.1]; exact hmd)) (cwV 2 S.2.2.2.2.1 (lw_V q129 q131 qs6 q25 q132) rfl rfl rfl (by decide +kernel) ⟨Nat.le_of_ble_eq_true rfl, Nat.le_of_ble_eq_true rfl⟩) rfl rfl rfl rfl hl.1 rfl (Nat.le_of_ble_eq_true rfl) dX0_deleteMin_51 ⟨Nat.le_refl _, Nat.le_refl _⟩ (fun r4 t4 H locs h_t4 Y => ?_)
      obtain ⟨e_r4, hac4, hko4, -⟩ := h_t4
      rw [e_r4]
      refine x0_s6 S Y h_h dX0_deleteMin_54 (fun t5 H locs e_t5 Y => ?_)
      refine lv_iload_n hx hb dX0_deleteMin_55 rfl (lv_at hl 2 rfl) ?_
      have hko3 : Ko (dmn0 h σ) t3 := by have k := Ko_tr hko1 hko2; rw [e_t3]; exact ⟨by show upd (t2 7) _ (t2 7 _ - 1) = upd (σ 7) _ (σ 7 _ - 1); rw [k.1], k.2.1, k.2.2.1, k.2.2.2.1, k.2.2.2.2.1, k.2.2.2.2.2⟩
      exact gIret S Y rfl (⟨e8.symm, by rw [e9, e_t5]; exact Ac_top hac4 _ r2, Or.inr ⟨by rw [e8]; exact hc, Ko_tr hko3 (Ko_tr hko4 (by rw [e_t5]; exact ⟨rfl, rfl, rfl, rfl, rfl, rfl⟩))⟩⟩) dX0_deleteMin_56
    · skip
      exact absurd (ge0.mpr hc) c7
set_option maxHeartbeats 4000000 in
set_option maxRecDepth 100000 in
/-- LeftistHeaps.meld -/
theorem c0_meld (l : Launch) (D : va_G) (dA : Nat → ClassId) (o : Nat) (q : Nat → Nat) (σ : CS) (α : CS) (d1 s1 r : Int32) (α' : CS) (hac : Ac α σ) (hm : Ml α d1 s1 r α') (h_tk : isH α s1 → vp_in (σ 11 s1.toNatClampNeg) 1100) (h_t : vp_in (σ 17 0) 1100) : gMi l D (wX0 dA o q) (tX0 dA) yX0_meld cX0_meld 3 (some .int) { frames := 2, cells := 0, slots := 0, locals := 50 } [.ref o, .int d1, .int s1] σ (fun r' σ' => r' = r ∧ Ac α' σ' ∧ ((r = -1 ∧ Ko σ σ') ∨ (r = 0 ∧ Ko (mld0 d1 s1 σ) σ'))) := by
  intro sz
  refine gEnter (own := RX0) (lv := [(0, .ref o), (1, .int d1), (2, .int s1)]) (wX0_g dA o q) (by decide) rfl (Nat.le_of_ble_eq_true rfl) rfl (fun p e s m below meth c ls S hA Y hl => ?_)
  have hx := S.1
  have hb := S.2.1
  have a7 := hac.2.2.2.2.2.2.2.1
  have a8 := hac.2.2.2.2.2.2.2.2
  rcases hm with ⟨hn, e8, e9⟩ | ⟨hn, e8, h_d, h_s, r2, α1, hmd, e9⟩
  · skip
    refine lv_aload_n hx hb dX0_meld_0 rfl (lv_at hl 0 rfl) ?_
    refine lv_iload_n hx hb dX0_meld_1 rfl (lv_at hl 1 rfl) ?_
    refine gCallI (ci := 0) (As := [.int d1]) (rest := []) S (wX0_g dA o q) Y hA (c0_isHeap l D dA o q σ d1) (cwV 1 S.2.2.2.2.1 (lw_V q109 q111 qs1 q25 q112) rfl rfl rfl (by decide +kernel) ⟨Nat.le_of_ble_eq_true rfl, Nat.le_of_ble_eq_true rfl⟩) rfl rfl rfl rfl hl.1 rfl (Nat.le_of_ble_eq_true rfl) dX0_meld_2 ⟨Nat.le_refl _, Nat.le_refl _⟩ (fun r1 q1 H locs h_q1 Y => ?_)
    rw [h_q1.1] at Y
    have y_q1 : (¬ r1 = 0 ∧ isH α d1) ∨ (r1 = 0 ∧ ¬ isH α d1) := by rcases h_q1.2 with ⟨h9, h8⟩ | ⟨h9, h8⟩; exact Or.inl ⟨by rw [h9]; decide, h8.1, by rw [← a8]; exact h8.2⟩; exact Or.inr ⟨h9, fun h7 => h8 ⟨h7.1, by rw [a8]; exact h7.2⟩⟩
    refine lv_if_eq (tgt := 21) hx hb dX0_meld_5 (by decide) (fun c5 => ?_) (fun c5 => ?_)
    · skip
      refine lv_iconst (v := (-1)) hx hb dX0_meld_21 (by decide) ?_
      exact gIret S Y rfl (⟨e8.symm, by rw [e9]; exact hac, Or.inl ⟨e8, Ko_rf _⟩⟩) dX0_meld_22
    · skip
      refine lv_aload_n hx hb dX0_meld_8 rfl (lv_at hl 0 rfl) ?_
      refine lv_iload_n hx hb dX0_meld_9 rfl (lv_at hl 2 rfl) ?_
      refine gCallI (ci := 0) (As := [.int s1]) (rest := []) S (wX0_g dA o q) Y hA (c0_isHeap l D dA o q σ s1) (cwV 1 S.2.2.2.2.1 (lw_V q109 q111 qs1 q25 q112) rfl rfl rfl (by decide +kernel) ⟨Nat.le_of_ble_eq_true rfl, Nat.le_of_ble_eq_true rfl⟩) rfl rfl rfl rfl hl.1 rfl (Nat.le_of_ble_eq_true rfl) dX0_meld_10 ⟨Nat.le_refl _, Nat.le_refl _⟩ (fun r3 q2 H locs h_q2 Y => ?_)
      rw [h_q2.1] at Y
      have y_q2 : (¬ r3 = 0 ∧ isH α s1) ∨ (r3 = 0 ∧ ¬ isH α s1) := by rcases h_q2.2 with ⟨h9, h8⟩ | ⟨h9, h8⟩; exact Or.inl ⟨by rw [h9]; decide, h8.1, by rw [← a8]; exact h8.2⟩; exact Or.inr ⟨h9, fun h7 => h8 ⟨h7.1, by rw [a8]; exact h7.2⟩⟩
      refine lv_if_eq (tgt := 21) hx hb dX0_meld_13 (by decide) (fun c13 => ?_) (fun c13 => ?_)
      · skip
        refine lv_iconst (v := (-1)) hx hb dX0_meld_21 (by decide) ?_
        exact gIret S Y rfl (⟨e8.symm, by rw [e9]; exact hac, Or.inl ⟨e8, Ko_rf _⟩⟩) dX0_meld_22
      · skip
        refine lv_iload_n hx hb dX0_meld_16 rfl (lv_at hl 1 rfl) ?_
        refine lv_iload_n hx hb dX0_meld_17 rfl (lv_at hl 2 rfl) ?_
        refine lv_icmp_ne (tgt := 23) hx hb dX0_meld_18 (by decide) (fun c18 => ?_) (fun c18 => ?_)
        · skip
          exact absurd ⟨(y_q1.resolve_right (fun h9 => c5 h9.1)).2, (y_q2.resolve_right (fun h9 => c13 h9.1)).2, c18⟩ hn
        · skip
          refine lv_iconst (v := (-1)) hx hb dX0_meld_21 (by decide) ?_
          exact gIret S Y rfl (⟨e8.symm, by rw [e9]; exact hac, Or.inl ⟨e8, Ko_rf _⟩⟩) dX0_meld_22
  · obtain ⟨hn1, hn2, hn3⟩ := hn
    have h_tk := h_tk hn2
    refine lv_aload_n hx hb dX0_meld_0 rfl (lv_at hl 0 rfl) ?_
    refine lv_iload_n hx hb dX0_meld_1 rfl (lv_at hl 1 rfl) ?_
    refine gCallI (ci := 0) (As := [.int d1]) (rest := []) S (wX0_g dA o q) Y hA (c0_isHeap l D dA o q σ d1) (cwV 1 S.2.2.2.2.1 (lw_V q109 q111 qs1 q25 q112) rfl rfl rfl (by decide +kernel) ⟨Nat.le_of_ble_eq_true rfl, Nat.le_of_ble_eq_true rfl⟩) rfl rfl rfl rfl hl.1 rfl (Nat.le_of_ble_eq_true rfl) dX0_meld_2 ⟨Nat.le_refl _, Nat.le_refl _⟩ (fun r1 q1 H locs h_q1 Y => ?_)
    rw [h_q1.1] at Y
    have hz1 : ¬ r1 = 0 := by rcases h_q1.2 with ⟨h9, -⟩ | ⟨-, h9⟩; rw [h9]; decide; exact absurd (by rw [a8]; exact hn1) h9
    refine lv_if_eq (tgt := 21) hx hb dX0_meld_5 (by decide) (fun c5 => ?_) (fun c5 => ?_)
    · skip
      exact absurd c5 hz1
    · skip
      refine lv_aload_n hx hb dX0_meld_8 rfl (lv_at hl 0 rfl) ?_
      refine lv_iload_n hx hb dX0_meld_9 rfl (lv_at hl 2 rfl) ?_
      refine gCallI (ci := 0) (As := [.int s1]) (rest := []) S (wX0_g dA o q) Y hA (c0_isHeap l D dA o q σ s1) (cwV 1 S.2.2.2.2.1 (lw_V q109 q111 qs1 q25 q112) rfl rfl rfl (by decide +kernel) ⟨Nat.le_of_ble_eq_true rfl, Nat.le_of_ble_eq_true rfl⟩) rfl rfl rfl rfl hl.1 rfl (Nat.le_of_ble_eq_true rfl) dX0_meld_10 ⟨Nat.le_refl _, Nat.le_refl _⟩ (fun r3 q2 H locs h_q2 Y => ?_)
      rw [h_q2.1] at Y
      have hz2 : ¬ r3 = 0 := by rcases h_q2.2 with ⟨h9, -⟩ | ⟨-, h9⟩; rw [h9]; decide; exact absurd (by rw [a8]; exact hn2) h9
      refine lv_if_eq (tgt := 21) hx hb dX0_meld_13 (by decide) (fun c13 => ?_) (fun c13 => ?_)
      · skip
        exact absurd c13 hz2
      · skip
        refine lv_iload_n hx hb dX0_meld_16 rfl (lv_at hl 1 rfl) ?_
        refine lv_iload_n hx hb dX0_meld_17 rfl (lv_at hl 2 rfl) ?_
        refine lv_icmp_ne (tgt := 23) hx hb dX0_meld_18 (by decide) (fun c18 => ?_) (fun c18 => ?_)
        · skip
          refine lv_aload_n hx hb dX0_meld_23 rfl (lv_at hl 0 rfl) ?_
          refine x0_g6 S Y dX0_meld_24 ?_
          refine lv_iload_n hx hb dX0_meld_27 rfl (lv_at hl 1 rfl) ?_
          refine lv_aload_n hx hb dX0_meld_28 rfl (lv_at hl 0 rfl) ?_
          refine lv_aload_n hx hb dX0_meld_29 rfl (lv_at hl 0 rfl) ?_
          refine x0_g6 S Y dX0_meld_30 ?_
          refine lv_iload_n hx hb dX0_meld_33 rfl (lv_at hl 1 rfl) ?_
          refine x0_l6 S Y h_d dX0_meld_34 ?_
          refine lv_topi (fun v1 e_v1 => ?_)
          have e9 : (α 7 d1.toNatClampNeg) = v1 := by rw [e_v1, a7]
          subst e9
          refine lv_aload_n hx hb dX0_meld_35 rfl (lv_at hl 0 rfl) ?_
          refine x0_g6 S Y dX0_meld_36 ?_
          refine lv_iload_n hx hb dX0_meld_39 rfl (lv_at hl 2 rfl) ?_
          refine x0_l6 S Y h_s dX0_meld_40 ?_
          refine lv_topi (fun v2 e_v2 => ?_)
          have e9 : (α 7 s1.toNatClampNeg) = v2 := by rw [e_v2, a7]
          subst e9
          refine gCallI (ci := 0) (As := [.int (α 7 d1.toNatClampNeg), .int (α 7 s1.toNatClampNeg)]) (rest := [.int d1, .ref (q 6)]) S (wX0_g dA o q) Y hA (c0_meldTops l D dA o q σ α (α 7 d1.toNatClampNeg) (α 7 s1.toNatClampNeg) r2 α1 hac hmd) (cwV 2 S.2.2.2.2.1 (lw_V q129 q131 qs6 q25 q132) rfl rfl rfl (by decide +kernel) ⟨Nat.le_of_ble_eq_true rfl, Nat.le_of_ble_eq_true rfl⟩) rfl rfl rfl rfl hl.1 rfl (Nat.le_of_ble_eq_true rfl) dX0_meld_41 ⟨Nat.le_refl _, Nat.le_refl _⟩ (fun r4 t1 H locs h_t1 Y => ?_)
          obtain ⟨e_r4, hac1, hko1, -⟩ := h_t1
          rw [e_r4]
          refine x0_s6 S Y h_d dX0_meld_44 (fun t2 H locs e_t2 Y => ?_)
          refine lv_aload_n hx hb dX0_meld_45 rfl (lv_at hl 0 rfl) ?_
          refine x0_g6 S Y dX0_meld_46 ?_
          refine lv_iload_n hx hb dX0_meld_49 rfl (lv_at hl 2 rfl) ?_
          refine lv_iconst (v := (-1)) hx hb dX0_meld_50 (by decide) ?_
          refine x0_s6 S Y h_s dX0_meld_51 (fun t3 H locs e_t3 Y => ?_)
          refine lv_aload_n hx hb dX0_meld_52 rfl (lv_at hl 0 rfl) ?_
          refine x0_g7 S Y dX0_meld_53 ?_
          refine lv_iload_n hx hb dX0_meld_56 rfl (lv_at hl 1 rfl) ?_
          refine lv_dup2_11 hx hb dX0_meld_57 rfl rfl ?_
          refine x0_l7 S Y h_d dX0_meld_58 ?_
          refine lv_aload_n hx hb dX0_meld_59 rfl (lv_at hl 0 rfl) ?_
          refine x0_g7 S Y dX0_meld_60 ?_
          refine lv_iload_n hx hb dX0_meld_63 rfl (lv_at hl 2 rfl) ?_
          refine x0_l7 S Y h_s dX0_meld_64 ?_
          refine lv_iadd hx hb dX0_meld_65 ?_
          refine x0_s7 S Y h_d dX0_meld_66 (fun t4 H locs e_t4 Y => ?_)
          refine lv_aload_n hx hb dX0_meld_67 rfl (lv_at hl 0 rfl) ?_
          refine x0_g7 S Y dX0_meld_68 ?_
          refine lv_iload_n hx hb dX0_meld_71 rfl (lv_at hl 2 rfl) ?_
          refine lv_iconst (v := 0) hx hb dX0_meld_72 (by decide) ?_
          refine x0_s7 S Y h_s dX0_meld_73 (fun t5 H locs e_t5 Y => ?_)
          refine lv_aload_n hx hb dX0_meld_74 rfl (lv_at hl 0 rfl) ?_
          refine x0_g9 S Y dX0_meld_75 ?_
          refine lv_aload_n hx hb dX0_meld_78 rfl (lv_at hl 0 rfl) ?_
          refine x0_g11 S Y dX0_meld_79 ?_
          refine lv_iload_n hx hb dX0_meld_82 rfl (lv_at hl 2 rfl) ?_
          refine x0_l11 S Y h_s dX0_meld_83 ?_
          refine lv_aload_n hx hb dX0_meld_84 rfl (lv_at hl 0 rfl) ?_
          refine x0_g11 S Y dX0_meld_85 ?_
          refine lv_iload_n hx hb dX0_meld_88 rfl (lv_at hl 1 rfl) ?_
          refine x0_l11 S Y h_d dX0_meld_89 ?_
          refine x0_s9 S Y (by rw [e_t5, e_t4, e_t3, e_t2]; show vp_in (t1 11 _) 1100; rw [hko1.2.2.2.2.1]; exact h_tk) dX0_meld_90 (fun t6 H locs e_t6 Y => ?_)
          have e7 : t3 = va_up (va_up t1 6 (upd (t1 6) d1.toNatClampNeg r2)) 6 (upd (va_up t1 6 (upd (t1 6) d1.toNatClampNeg r2) 6) s1.toNatClampNeg (-1)) := by rw [e_t3, e_t2]
          have hac3 : Ac α' t3 := by rw [e7, e9, show va_up α1 7 (upd (upd (α1 7) d1.toNatClampNeg r2) s1.toNatClampNeg (-1)) = va_up (va_up α1 7 (upd (α1 7) d1.toNatClampNeg r2)) 7 (upd (va_up α1 7 (upd (α1 7) d1.toNatClampNeg r2) 7) s1.toNatClampNeg (-1)) from (bx_uu α1 7 _ _).symm]; exact Ac_top (Ac_top hac1 d1.toNatClampNeg r2) s1.toNatClampNeg (-1)
          refine lv_aload_n hx hb dX0_meld_91 rfl (lv_at hl 0 rfl) ?_
          refine lv_iload_n hx hb dX0_meld_92 rfl (lv_at hl 2 rfl) ?_
          refine gCallV (ci := 0) (As := [.int s1]) (rest := []) S (wX0_g dA o q) Y hA (c0_newToken l D dA o q t6 s1 h_s (by rw [e_t6, e_t5, e_t4, e_t3, e_t2]; show vp_in (t1 17 0) 1100; rw [hko1.2.2.2.2.2]; exact h_t)) (cwV 1 S.2.2.2.2.1 (lw_V q101 q103 qs0 q25 q104) rfl rfl rfl (by decide +kernel) ⟨Nat.le_of_ble_eq_true rfl, Nat.le_of_ble_eq_true rfl⟩) rfl rfl rfl rfl hl.1 rfl (Nat.le_of_ble_eq_true rfl) dX0_meld_93 ⟨Nat.le_refl _, Nat.le_refl _⟩ (fun t7 H locs h_t7 Y => ?_)
          refine lv_iconst (v := 0) hx hb dX0_meld_96 (by decide) ?_
          have hE7 : Ex [7, 9, 10, 11, 17] t3 t7 := by rw [h_t7, e_t6, e_t5, e_t4]; exact Ex_tr (Ex_tr (Ex_tr (Ex_up (by decide)) (Ex_up (by decide))) (Ex_up (by decide))) (Ex_tr (Ex_tr (Ex_tr (Ex_up (by decide)) (Ex_up (by decide))) (Ex_up (by decide))) (Ex_up (by decide)))
          have k7 : Ko (mld0 d1 s1 t1) t7 := by rw [h_t7, e_t6, e_t5, e_t4, e_t3, e_t2]; exact ⟨rfl, rfl, rfl, rfl, rfl, rfl⟩
          have k1 : Ko (mld0 d1 s1 σ) (mld0 d1 s1 t1) := by unfold mld0 ntok; exact ⟨by show upd (upd (t1 7) _ _) _ _ = upd (upd (σ 7) _ _) _ _; rw [hko1.1], hko1.2.1, by show upd (upd (t1 9) (t1 11 _).toNatClampNeg _) (t1 17 0).toNatClampNeg (t1 17 0) = upd (upd (σ 9) (σ 11 _).toNatClampNeg _) (σ 17 0).toNatClampNeg (σ 17 0); rw [hko1.2.2.1, hko1.2.2.2.2.1, hko1.2.2.2.2.2], by show upd (t1 10) (t1 17 0).toNatClampNeg _ = upd (σ 10) (σ 17 0).toNatClampNeg _; rw [hko1.2.2.2.1, hko1.2.2.2.2.2], by show upd (t1 11) _ (t1 17 0) = upd (σ 11) _ (σ 17 0); rw [hko1.2.2.2.2.1, hko1.2.2.2.2.2], by show (fun _ => t1 17 0 + 1) = (fun _ => σ 17 0 + 1); rw [hko1.2.2.2.2.2]⟩
          exact gIret S Y rfl (⟨e8.symm, Ac_own hac3 (fun k hk => hE7 k (fun h9 => hk (by revert h9; simp only [List.mem_cons, List.not_mem_nil, or_false]; omega))), Or.inr ⟨e8, Ko_tr k1 k7⟩⟩) dX0_meld_97
        · skip
          exact absurd c18 hn3
end
section
theorem Ex_one {k : Nat} {σ σ' : CS} (h : Ex [k] σ σ') : σ' = va_up σ k (σ' k) := by
  funext j
  by_cases e : j = k
  · rw [e, up_s]
  · rw [up_n e]; exact h j (fun q => e (List.mem_singleton.mp q))
theorem Ow_in : ∀ (n : Nat) {ld ld' : Nat → Int32} {t r : Int32}, Ow n ld t ld' r → vp_in r 1100
  | 0, ld, ld', t, r, h => by rw [h.2.2.2]; exact h.1
  | n + 1, ld, ld', t, r, h => Ow_in n h.2.2.2
theorem Ac_pt {α σ σ' : CS} (h : Ac α σ) (e0 : σ' 0 = σ 0) (e1 : σ' 1 = σ 1) (e2 : σ' 2 = σ 2) (e3 : σ' 3 = σ 3) (e4 : σ' 4 = σ 4) (e5 : σ' 5 = σ 5) (e6 : σ' 6 = σ 6) (e12 : σ' 12 = σ 12) (e15 : σ' 15 = σ 15) (e16 : σ' 16 = σ 16) : Ac α σ' := by
  unfold Ac
  rw [e0, e1, e2, e3, e4, e5, e6, e12, e15, e16]
  exact h
theorem Ko_ins {σ u : CS} (h : Ko σ u) (x r : Int32) : Ko (ins0 x r σ) (ins0 x r u) := by
  refine ⟨?_, ?_, h.2.2.1, h.2.2.2.1, h.2.2.2.2.1, h.2.2.2.2.2⟩
  · show upd (u 7) _ (u 7 _ + 1) = upd (σ 7) _ (σ 7 _ + 1)
    rw [h.1]
  · show upd (u 8) _ (u 11 _) = upd (σ 8) _ (σ 11 _)
    rw [h.2.1, h.2.2.2.2.1]
theorem ins_ac {α σ t2 t3 t4 t5 t6 t7 t8 t9 t10 : CS} {h k r : Int32} (hac : Ac α σ) (e2 : t2 = va_up σ 15 (fun _ => σ 15 0 - 1)) (e3 : t3 = va_up t2 0 (upd (t2 0) r.toNatClampNeg k)) (e4 : t4 = va_up t3 1 (upd (t3 1) r.toNatClampNeg (-1))) (e5 : t5 = va_up t4 2 (upd (t4 2) r.toNatClampNeg (-1))) (e6 : t6 = va_up t5 3 (upd (t5 3) r.toNatClampNeg 1)) (e7 : t7 = va_up t6 4 (upd (t6 4) r.toNatClampNeg (vp_nar .boolean 1))) (e8 : t8 = va_up t7 5 (upd (t7 5) r.toNatClampNeg (vp_nar .boolean 0))) (e9 : t9 = va_up t8 8 (upd (t8 8) r.toNatClampNeg (t8 11 h.toNatClampNeg))) (e10 : t10 = va_up t9 7 (upd (t9 7) h.toNatClampNeg (t9 7 h.toNatClampNeg + 1))) : Ac (take r k α) t10 ∧ Ko (ins0 h r σ) t10 := by
  rw [bz1] at e7
  rw [bz0] at e8
  have o2 : ∀ j, j ≠ 15 → t2 j = σ j := fun j hj => by rw [e2]; exact up_n hj
  have o3 : ∀ j, j ≠ 0 → t3 j = t2 j := fun j hj => by rw [e3]; exact up_n hj
  have o4 : ∀ j, j ≠ 1 → t4 j = t3 j := fun j hj => by rw [e4]; exact up_n hj
  have o5 : ∀ j, j ≠ 2 → t5 j = t4 j := fun j hj => by rw [e5]; exact up_n hj
  have o6 : ∀ j, j ≠ 3 → t6 j = t5 j := fun j hj => by rw [e6]; exact up_n hj
  have o7 : ∀ j, j ≠ 4 → t7 j = t6 j := fun j hj => by rw [e7]; exact up_n hj
  have o8 : ∀ j, j ≠ 5 → t8 j = t7 j := fun j hj => by rw [e8]; exact up_n hj
  have o9 : ∀ j, j ≠ 8 → t9 j = t8 j := fun j hj => by rw [e9]; exact up_n hj
  have o10 : ∀ j, j ≠ 7 → t10 j = t9 j := fun j hj => by rw [e10]; exact up_n hj
  have s2 : t2 15 = fun _ => σ 15 0 - 1 := by rw [e2, up_s]
  have s3 : t3 0 = upd (t2 0) r.toNatClampNeg k := by rw [e3, up_s]
  have s4 : t4 1 = upd (t3 1) r.toNatClampNeg (-1) := by rw [e4, up_s]
  have s5 : t5 2 = upd (t4 2) r.toNatClampNeg (-1) := by rw [e5, up_s]
  have s6 : t6 3 = upd (t5 3) r.toNatClampNeg 1 := by rw [e6, up_s]
  have s7 : t7 4 = upd (t6 4) r.toNatClampNeg 1 := by rw [e7, up_s]
  have s8 : t8 5 = upd (t7 5) r.toNatClampNeg 0 := by rw [e8, up_s]
  have s9 : t9 8 = upd (t8 8) r.toNatClampNeg (t8 11 h.toNatClampNeg) := by rw [e9, up_s]
  have s10 : t10 7 = upd (t9 7) h.toNatClampNeg (t9 7 h.toNatClampNeg + 1) := by rw [e10, up_s]
  have c10 : ∀ j, j ≠ 15 → j ≠ 0 → j ≠ 1 → j ≠ 2 → j ≠ 3 → j ≠ 4 → j ≠ 5 → j ≠ 8 → j ≠ 7 → t10 j = σ j := fun j a b c d e f g i k => by rw [o10 j k, o9 j i, o8 j g, o7 j f, o6 j e, o5 j d, o4 j c, o3 j b, o2 j a]
  constructor
  · refine Ac_pt (Ac_new hac r k) ?_ ?_ ?_ ?_ ?_ ?_ ?_ ?_ ?_ ?_
    · rw [o10 0 (by decide), o9 0 (by decide), o8 0 (by decide), o7 0 (by decide), o6 0 (by decide), o5 0 (by decide), o4 0 (by decide), s3, o2 0 (by decide)]; rfl
    · rw [o10 1 (by decide), o9 1 (by decide), o8 1 (by decide), o7 1 (by decide), o6 1 (by decide), o5 1 (by decide), s4, o3 1 (by decide), o2 1 (by decide)]; rfl
    · rw [o10 2 (by decide), o9 2 (by decide), o8 2 (by decide), o7 2 (by decide), o6 2 (by decide), s5, o4 2 (by decide), o3 2 (by decide), o2 2 (by decide)]; rfl
    · rw [o10 3 (by decide), o9 3 (by decide), o8 3 (by decide), o7 3 (by decide), s6, o5 3 (by decide), o4 3 (by decide), o3 3 (by decide), o2 3 (by decide)]; rfl
    · rw [o10 4 (by decide), o9 4 (by decide), o8 4 (by decide), s7, o6 4 (by decide), o5 4 (by decide), o4 4 (by decide), o3 4 (by decide), o2 4 (by decide)]; rfl
    · rw [o10 5 (by decide), o9 5 (by decide), s8, o7 5 (by decide), o6 5 (by decide), o5 5 (by decide), o4 5 (by decide), o3 5 (by decide), o2 5 (by decide)]; rfl
    · exact c10 6 (by decide) (by decide) (by decide) (by decide) (by decide) (by decide) (by decide) (by decide) (by decide)
    · exact c10 12 (by decide) (by decide) (by decide) (by decide) (by decide) (by decide) (by decide) (by decide) (by decide)
    · rw [o10 15 (by decide), o9 15 (by decide), o8 15 (by decide), o7 15 (by decide), o6 15 (by decide), o5 15 (by decide), o4 15 (by decide), o3 15 (by decide), s2]; rfl
    · exact c10 16 (by decide) (by decide) (by decide) (by decide) (by decide) (by decide) (by decide) (by decide) (by decide)
  · refine ⟨?_, ?_, ?_, ?_, ?_, ?_⟩
    · rw [s10, o9 7 (by decide), o8 7 (by decide), o7 7 (by decide), o6 7 (by decide), o5 7 (by decide), o4 7 (by decide), o3 7 (by decide), o2 7 (by decide)]; rfl
    · rw [o10 8 (by decide), s9, o8 8 (by decide), o7 8 (by decide), o6 8 (by decide), o5 8 (by decide), o4 8 (by decide), o3 8 (by decide), o2 8 (by decide), o8 11 (by decide), o7 11 (by decide), o6 11 (by decide), o5 11 (by decide), o4 11 (by decide), o3 11 (by decide), o2 11 (by decide)]; rfl
    · exact c10 9 (by decide) (by decide) (by decide) (by decide) (by decide) (by decide) (by decide) (by decide) (by decide)
    · exact c10 10 (by decide) (by decide) (by decide) (by decide) (by decide) (by decide) (by decide) (by decide) (by decide)
    · exact c10 11 (by decide) (by decide) (by decide) (by decide) (by decide) (by decide) (by decide) (by decide) (by decide)
    · exact c10 17 (by decide) (by decide) (by decide) (by decide) (by decide) (by decide) (by decide) (by decide) (by decide)
end
section
set_option maxHeartbeats 4000000 in
set_option maxRecDepth 100000 in
/-- LeftistHeaps.ownerOf: its loop -/
theorem x0_ow {p : Program} {l : Launch} {e : Env} {s : State} {m : MethodId} {args : Array Value} {below : List Frame} {meth : Method} {c : Code} {Q : State → Prop} {D : va_G} {dA : Nat → ClassId} {o : Nat} {q : Nat → Nat} {A : Nat → Prop} {H0 : Heap} {σ0 : CS} {ld : Nat → Int32} {r : Int32} (S : gS p s m meth c cX0_ownerOf 3 args RX0 (some .int) D (tX0 dA)) (hA : ∀ q, H0.size ≤ q → A q) (kk : ∀ (σ : CS) (H : Heap) (locs : List Loc) (ls : Array Slot), σ = va_up σ0 9 ld → gP D (wX0 dA o q) A H0 σ H locs → lv_has ls 3 [(0, .ref o), (2, .int r)] → W p l e { frames := 0, cells := 0, slots := 0, locals := 0 } s m args below meth c H locs 0 0 Q (F0 m 44 ls [])) : ∀ (n : Nat) (t : Int32) (σ : CS) (H : Heap) (locs : List Loc) (ls : Array Slot), Ow n (σ 9) t ld r → Ex [9] σ0 σ → gP D (wX0 dA o q) A H0 σ H locs → lv_has ls 3 [(0, .ref o), (2, .int t)] → W p l e { frames := 0, cells := 0, slots := 0, locals := 0 } s m args below meth c H locs 0 0 Q (F0 m 7 ls []) := by
  have hx := S.1
  have hb := S.2.1
  intro n
  induction n with
  | zero =>
    intro t σ H locs ls how hE Y hl
    obtain ⟨h1, h2, h3, h4⟩ := how
    refine lv_aload_n hx hb dX0_ownerOf_7 rfl (lv_at hl 0 rfl) ?_
    refine x0_g9 S Y dX0_ownerOf_8 ?_
    refine lv_iload_n hx hb dX0_ownerOf_11 rfl (lv_at hl 1 rfl) ?_
    refine x0_l9 S Y h1 dX0_ownerOf_12 ?_
    refine lv_iload_n hx hb dX0_ownerOf_13 rfl (lv_at hl 1 rfl) ?_
    refine lv_icmp_eq (tgt := 44) hx hb dX0_ownerOf_14 (by decide) (fun c14 => ?_) (fun c14 => ?_)
    · skip
      exact kk σ H locs ls (by rw [h3]; exact Ex_one hE) Y (by rw [h4]; exact (lv_sub hl [0, 1] rfl))
    · skip
      exact absurd h2 c14
  | succ n ih =>
    intro t σ H locs ls how hE Y hl
    obtain ⟨h1, h2, h3, how⟩ := how
    refine lv_aload_n hx hb dX0_ownerOf_7 rfl (lv_at hl 0 rfl) ?_
    refine x0_g9 S Y dX0_ownerOf_8 ?_
    refine lv_iload_n hx hb dX0_ownerOf_11 rfl (lv_at hl 1 rfl) ?_
    refine x0_l9 S Y h1 dX0_ownerOf_12 ?_
    refine lv_iload_n hx hb dX0_ownerOf_13 rfl (lv_at hl 1 rfl) ?_
    refine lv_icmp_eq (tgt := 44) hx hb dX0_ownerOf_14 (by decide) (fun c14 => ?_) (fun c14 => ?_)
    · skip
      exact absurd c14 h3
    · skip
      refine lv_aload_n hx hb dX0_ownerOf_17 rfl (lv_at hl 0 rfl) ?_
      refine x0_g9 S Y dX0_ownerOf_18 ?_
      refine lv_iload_n hx hb dX0_ownerOf_21 rfl (lv_at hl 1 rfl) ?_
      refine lv_aload_n hx hb dX0_ownerOf_22 rfl (lv_at hl 0 rfl) ?_
      refine x0_g9 S Y dX0_ownerOf_23 ?_
      refine lv_aload_n hx hb dX0_ownerOf_26 rfl (lv_at hl 0 rfl) ?_
      refine x0_g9 S Y dX0_ownerOf_27 ?_
      refine lv_iload_n hx hb dX0_ownerOf_30 rfl (lv_at hl 1 rfl) ?_
      refine x0_l9 S Y h1 dX0_ownerOf_31 ?_
      refine x0_l9 S Y h2 dX0_ownerOf_32 ?_
      refine x0_s9 S Y h1 dX0_ownerOf_33 (fun t1 H locs e_t1 Y => ?_)
      refine lv_aload_n hx hb dX0_ownerOf_34 rfl (lv_at hl 0 rfl) ?_
      refine x0_g9 S Y dX0_ownerOf_35 ?_
      refine lv_iload_n hx hb dX0_ownerOf_38 rfl (lv_at hl 1 rfl) ?_
      refine x0_l9 S Y h1 dX0_ownerOf_39 ?_
      refine lv_topi (fun v1 e_v1 => ?_)
      have e9 : (σ 9 (σ 9 t.toNatClampNeg).toNatClampNeg) = v1 := by rw [e_v1, e_t1]; exact pk_us.symm
      subst e9
      refine lv_istore_n (lv' := [(2, .int (σ 9 (σ 9 t.toNatClampNeg).toNatClampNeg)), (0, .ref o)]) hx hb dX0_ownerOf_40 rfl hl (by decide) rfl (fun ls hl => ?_)
      refine lv_goto (tgt := 7) hx hb dX0_ownerOf_41 (by decide) ?_
      exact ih (σ 9 (σ 9 t.toNatClampNeg).toNatClampNeg) t1 H locs ls (by rw [e_t1]; exact how) (Ex_tr hE (by rw [e_t1]; exact Ex_up (by decide))) Y (lv_sub hl [1, 0] rfl)
set_option maxHeartbeats 4000000 in
set_option maxRecDepth 100000 in
/-- LeftistHeaps.ownerOf -/
theorem c0_ownerOf (l : Launch) (D : va_G) (dA : Nat → ClassId) (o : Nat) (q : Nat → Nat) (σ : CS) (x : Int32) (h_x : vp_in x 60) (n : Nat) (ld : Nat → Int32) (t : Int32) (how : Ow n (σ 9) (σ 8 x.toNatClampNeg) ld t) : gMi l D (wX0 dA o q) (tX0 dA) yX0_ownerOf cX0_ownerOf 3 (some .int) { frames := 0, cells := 0, slots := 0, locals := 0 } [.ref o, .int x] σ (fun r' σ' => r' = σ 10 t.toNatClampNeg ∧ σ' = va_up σ 9 ld) := by
  intro sz
  refine gEnter (own := RX0) (lv := [(0, .ref o), (1, .int x)]) (wX0_g dA o q) (by decide) rfl (Nat.le_of_ble_eq_true rfl) rfl (fun p e s m below meth c ls S hA Y hl => ?_)
  have hx := S.1
  have hb := S.2.1
  refine lv_aload_n hx hb dX0_ownerOf_0 rfl (lv_at hl 0 rfl) ?_
  refine x0_g8 S Y dX0_ownerOf_1 ?_
  refine lv_iload_n hx hb dX0_ownerOf_4 rfl (lv_at hl 1 rfl) ?_
  refine x0_l8 S Y h_x dX0_ownerOf_5 ?_
  refine lv_istore_n (lv' := [(2, .int (σ 8 x.toNatClampNeg)), (0, .ref o), (1, .int x)]) hx hb dX0_ownerOf_6 rfl hl (by decide) rfl (fun ls hl => ?_)
  refine x0_ow (σ0 := σ) (ld := ld) (r := t) S hA ?_ n (σ 8 x.toNatClampNeg) σ _ _ ls how (Ex_rf _ _) Y (lv_sub hl [1, 0] rfl)
  intro σ1 H locs ls e_s Y hl
  refine lv_aload_n hx hb dX0_ownerOf_44 rfl (lv_at hl 0 rfl) ?_
  refine x0_g10 S Y dX0_ownerOf_45 ?_
  refine lv_iload_n hx hb dX0_ownerOf_48 rfl (lv_at hl 1 rfl) ?_
  refine x0_l10 S Y (Ow_in n how) dX0_ownerOf_49 ?_
  exact gIret S Y rfl (⟨by rw [e_s]; rfl, e_s⟩) dX0_ownerOf_50
set_option maxHeartbeats 4000000 in
set_option maxRecDepth 100000 in
/-- LeftistHeaps.delete -/
theorem c0_delete (l : Launch) (D : va_G) (dA : Nat → ClassId) (o : Nat) (q : Nat → Nat) (σ : CS) (α : CS) (x : Int32) (ld : Nat → Int32) (t : Int32) (hac : Ac α σ) (hw : isL α x → (∃ n, Ow n (σ 9) (σ 8 x.toNatClampNeg) ld t) ∧ vp_in (σ 10 t.toNatClampNeg) 10) : gMi l D (wX0 dA o q) (tX0 dA) yX0_delete cX0_delete 2 (some .int) { frames := 1, cells := 0, slots := 0, locals := 22 } [.ref o, .int x] σ (fun r' σ' => (isL α x ∧ r' = 0 ∧ Ac (va_up α 4 (upd (α 4) x.toNatClampNeg 2)) σ' ∧ Ko (del0 ld (σ 10 t.toNatClampNeg) σ) σ') ∨ (¬ isL α x ∧ r' = -1 ∧ σ' = σ)) := by
  intro sz
  refine gEnter (own := RX0) (lv := [(0, .ref o), (1, .int x)]) (wX0_g dA o q) (by decide) rfl (Nat.le_of_ble_eq_true rfl) rfl (fun p e s m below meth c ls S hA Y hl => ?_)
  have hx := S.1
  have hb := S.2.1
  refine lv_aload_n hx hb dX0_delete_0 rfl (lv_at hl 0 rfl) ?_
  refine lv_iload_n hx hb dX0_delete_1 rfl (lv_at hl 1 rfl) ?_
  refine gCallI (ci := 0) (As := [.int x]) (rest := []) S (wX0_g dA o q) Y hA (c0_isLive l D dA o q σ x) (cwV 1 S.2.2.2.2.1 (lw_V q145 q147 qs9 q25 q148) rfl rfl rfl (by decide +kernel) ⟨Nat.le_of_ble_eq_true rfl, Nat.le_of_ble_eq_true rfl⟩) rfl rfl rfl rfl hl.1 rfl (Nat.le_of_ble_eq_true rfl) dX0_delete_2 ⟨Nat.le_refl _, Nat.le_refl _⟩ (fun r1 s1 H locs h_s1 Y => ?_)
  rw [h_s1.1] at Y
  refine lv_if_ne (tgt := 10) hx hb dX0_delete_5 (by decide) (fun c5 => ?_) (fun c5 => ?_)
  · skip
    have hL : isL α x := (isL_iff hac).mp ((h_s1.2.resolve_right (fun h9 => c5 h9.1)).2)
    obtain ⟨⟨n, how⟩, h_ow⟩ := hw hL
    refine lv_aload_n hx hb dX0_delete_10 rfl (lv_at hl 0 rfl) ?_
    refine x0_g5 S Y dX0_delete_11 ?_
    refine lv_iload_n hx hb dX0_delete_14 rfl (lv_at hl 1 rfl) ?_
    refine lv_iconst (v := 1) hx hb dX0_delete_15 (by decide) ?_
    refine x0_s5 S Y hL.1 dX0_delete_16 (fun t1 H locs e_t1 Y => ?_)
    refine lv_aload_n hx hb dX0_delete_17 rfl (lv_at hl 0 rfl) ?_
    refine x0_g7 S Y dX0_delete_18 ?_
    refine lv_aload_n hx hb dX0_delete_21 rfl (lv_at hl 0 rfl) ?_
    refine lv_iload_n hx hb dX0_delete_22 rfl (lv_at hl 1 rfl) ?_
    refine gCallI (ci := 0) (As := [.int x]) (rest := [.ref (q 7)]) S (wX0_g dA o q) Y hA (c0_ownerOf l D dA o q t1 x hL.1 n ld t (by rw [e_t1]; exact how)) (cwV 1 S.2.2.2.2.1 (lw_V q149 q151 qs10 q25 q152) rfl rfl rfl (by decide +kernel) ⟨Nat.le_of_ble_eq_true rfl, Nat.le_of_ble_eq_true rfl⟩) rfl rfl rfl rfl hl.1 rfl (Nat.le_of_ble_eq_true rfl) dX0_delete_23 ⟨Nat.le_refl _, Nat.le_refl _⟩ (fun r2 t2 H locs h_t2 Y => ?_)
    obtain ⟨e_r2, e_t2⟩ := h_t2
    have e_r2 : r2 = (σ 10 t.toNatClampNeg) := by rw [e_r2, e_t1]; rfl
    rw [e_r2]
    refine lv_dup2_11 hx hb dX0_delete_26 rfl rfl ?_
    refine x0_l7 S Y h_ow dX0_delete_27 ?_
    refine lv_iconst (v := 1) hx hb dX0_delete_28 (by decide) ?_
    refine lv_isub hx hb dX0_delete_29 ?_
    refine x0_s7 S Y h_ow dX0_delete_30 (fun t3 H locs e_t3 Y => ?_)
    refine lv_iconst (v := 0) hx hb dX0_delete_31 (by decide) ?_
    have hac1 : Ac (va_up α 4 (upd (α 4) x.toNatClampNeg 2)) t1 := by rw [e_t1, bz1]; exact Ac_del hac x hL.2 hL.1
    exact gIret S Y rfl (Or.inl ⟨hL, rfl, Ac_own hac1 (by rw [e_t3, e_t2]; exact Ex_tr (Ex_up (by decide)) (Ex_up (by decide))), by rw [e_t3, e_t2, e_t1]; exact ⟨rfl, rfl, rfl, rfl, rfl, rfl⟩⟩) dX0_delete_32
  · skip
    refine lv_iconst (v := (-1)) hx hb dX0_delete_8 (by decide) ?_
    exact gIret S Y rfl (Or.inr ⟨fun h9 => (h_s1.2.elim (fun h8 => absurd (h8.1.symm.trans c5) (by decide)) (fun h8 => h8.2 ((isL_iff hac).mpr h9))), rfl, rfl⟩) dX0_delete_9
set_option maxHeartbeats 4000000 in
set_option maxRecDepth 100000 in
/-- LeftistHeaps.node -/
theorem c0_node (l : Launch) (D : va_G) (dA : Nat → ClassId) (o : Nat) (q : Nat → Nat) (σ : CS) (α : CS) (x w : Int32) (ld : Nat → Int32) (t : Int32) (hac : Ac α σ) (hw : vp_in x 60 → ¬ α 4 x.toNatClampNeg = 0 → ∃ n, Ow n (σ 9) (σ 8 x.toNatClampNeg) ld t) : gMi l D (wX0 dA o q) (tX0 dA) yX0_node cX0_node 3 (some .int) { frames := 1, cells := 0, slots := 0, locals := 22 } [.ref o, .int x, .int w] σ (fun r' σ' => Nd α x w (σ 10 t.toNatClampNeg) r' ∧ Ac α σ' ∧ (Ko σ σ' ∨ Ko (va_up σ 9 ld) σ')) := by
  intro sz
  refine gEnter (own := RX0) (lv := [(0, .ref o), (1, .int x), (2, .int w)]) (wX0_g dA o q) (by decide) rfl (Nat.le_of_ble_eq_true rfl) rfl (fun p e s m below meth c ls S hA Y hl => ?_)
  have hx := S.1
  have hb := S.2.1
  have a1 := hac.2.1
  have a2 := hac.2.2.1
  have a3 := hac.2.2.2.1
  refine lv_iload_n hx hb dX0_node_0 rfl (lv_at hl 1 rfl) ?_
  refine lv_if_lt (tgt := 28) hx hb dX0_node_1 (by decide) (fun c1 => ?_) (fun c1 => ?_)
  · skip
    refine lv_iconst (v := (-1)) hx hb dX0_node_28 (by decide) ?_
    exact gIret S Y rfl (⟨Or.inl ⟨fun h9 => vp_ge h9.1 c1, rfl⟩, hac, Or.inl (Ko_rf _)⟩) dX0_node_29
  · skip
    refine lv_iload_n hx hb dX0_node_4 rfl (lv_at hl 1 rfl) ?_
    refine lv_bipush (v := 60) hx hb dX0_node_5 (by decide) ?_
    refine lv_icmp_ge (tgt := 28) hx hb dX0_node_7 (by decide) (fun c7 => ?_) (fun c7 => ?_)
    · skip
      refine lv_iconst (v := (-1)) hx hb dX0_node_28 (by decide) ?_
      exact gIret S Y rfl (⟨Or.inl ⟨fun h9 => vp60' h9.1 c7, rfl⟩, hac, Or.inl (Ko_rf _)⟩) dX0_node_29
    · skip
      refine lv_aload_n hx hb dX0_node_10 rfl (lv_at hl 0 rfl) ?_
      refine x0_g4 S Y dX0_node_11 ?_
      refine lv_iload_n hx hb dX0_node_14 rfl (lv_at hl 1 rfl) ?_
      refine x0_l4 S Y (vp60 c1 c7) dX0_node_15 ?_
      refine lv_if_eq (tgt := 28) hx hb dX0_node_16 (by decide) (fun c16 => ?_) (fun c16 => ?_)
      · skip
        refine lv_iconst (v := (-1)) hx hb dX0_node_28 (by decide) ?_
        exact gIret S Y rfl (⟨Or.inl ⟨fun h9 => h9.2.1 ((Ac_used hac h9.1).mp c16), rfl⟩, hac, Or.inl (Ko_rf _)⟩) dX0_node_29
      · skip
        refine lv_iload_n hx hb dX0_node_19 rfl (lv_at hl 2 rfl) ?_
        refine lv_if_lt (tgt := 28) hx hb dX0_node_20 (by decide) (fun c20 => ?_) (fun c20 => ?_)
        · skip
          refine lv_iconst (v := (-1)) hx hb dX0_node_28 (by decide) ?_
          exact gIret S Y rfl (⟨Or.inl ⟨fun h9 => ge0.mp h9.2.2.1 c20, rfl⟩, hac, Or.inl (Ko_rf _)⟩) dX0_node_29
        · skip
          refine lv_iload_n hx hb dX0_node_23 rfl (lv_at hl 2 rfl) ?_
          refine lv_iconst (v := 4) hx hb dX0_node_24 (by decide) ?_
          refine lv_icmp_le (tgt := 30) hx hb dX0_node_25 (by decide) (fun c25 => ?_) (fun c25 => ?_)
          · skip
            have h_x := vp60 c1 c7
            have hU : ¬ α 4 x.toNatClampNeg = 0 := fun h9 => c16 ((Ac_used hac h_x).mpr h9)
            have hG : vp_in x 60 ∧ ¬ α 4 x.toNatClampNeg = 0 ∧ 0 ≤ w ∧ w ≤ 4 := ⟨h_x, hU, ge0.mpr c20, c25⟩
            refine lv_iload_n hx hb dX0_node_30 rfl (lv_at hl 2 rfl) ?_
            refine lv_if_ne (tgt := 41) hx hb dX0_node_31 (by decide) (fun c31 => ?_) (fun c31 => ?_)
            · skip
              refine lv_iload_n hx hb dX0_node_41 rfl (lv_at hl 2 rfl) ?_
              refine lv_iconst (v := 1) hx hb dX0_node_42 (by decide) ?_
              refine lv_icmp_ne (tgt := 53) hx hb dX0_node_43 (by decide) (fun c43 => ?_) (fun c43 => ?_)
              · skip
                refine lv_iload_n hx hb dX0_node_53 rfl (lv_at hl 2 rfl) ?_
                refine lv_iconst (v := 2) hx hb dX0_node_54 (by decide) ?_
                refine lv_icmp_ne (tgt := 65) hx hb dX0_node_55 (by decide) (fun c55 => ?_) (fun c55 => ?_)
                · skip
                  refine lv_iload_n hx hb dX0_node_65 rfl (lv_at hl 2 rfl) ?_
                  refine lv_iconst (v := 3) hx hb dX0_node_66 (by decide) ?_
                  refine lv_icmp_ne (tgt := 87) hx hb dX0_node_67 (by decide) (fun c67 => ?_) (fun c67 => ?_)
                  · skip
                    obtain ⟨n, how⟩ := hw h_x hU
                    refine lv_aload_n hx hb dX0_node_87 rfl (lv_at hl 0 rfl) ?_
                    refine lv_iload_n hx hb dX0_node_88 rfl (lv_at hl 1 rfl) ?_
                    refine gCallI (ci := 0) (As := [.int x]) (rest := []) S (wX0_g dA o q) Y hA (c0_ownerOf l D dA o q σ x h_x n ld t how) (cwV 1 S.2.2.2.2.1 (lw_V q149 q151 qs10 q25 q152) rfl rfl rfl (by decide +kernel) ⟨Nat.le_of_ble_eq_true rfl, Nat.le_of_ble_eq_true rfl⟩) rfl rfl rfl rfl hl.1 rfl (Nat.le_of_ble_eq_true rfl) dX0_node_89 ⟨Nat.le_refl _, Nat.le_refl _⟩ (fun r1 t1 H locs h_t1 Y => ?_)
                    exact gIret S Y rfl (⟨Or.inr ⟨hG, Or.inr (Or.inr (Or.inr (Or.inr ⟨⟨c31, c43, c55, c67⟩, h_t1.1⟩)))⟩, Ac_own hac (by rw [h_t1.2]; exact Ex_up (by decide)), Or.inr (by rw [h_t1.2]; exact Ko_rf _)⟩) dX0_node_92
                  · skip
                    refine lv_aload_n hx hb dX0_node_70 rfl (lv_at hl 0 rfl) ?_
                    refine x0_g5 S Y dX0_node_71 ?_
                    refine lv_iload_n hx hb dX0_node_74 rfl (lv_at hl 1 rfl) ?_
                    refine x0_l5 S Y (vp60 c1 c7) dX0_node_75 ?_
                    refine lv_if_eq (tgt := 83) hx hb dX0_node_76 (by decide) (fun c76 => ?_) (fun c76 => ?_)
                    · skip
                      refine lv_iconst (v := 1) hx hb dX0_node_83 (by decide) ?_
                      refine lv_goto (tgt := 92) hx hb dX0_node_84 (by decide) ?_
                      have h41 : α 4 x.toNatClampNeg = 1 := by rcases Ac_cell hac h_x with ⟨h9, -⟩ | ⟨h9, -⟩ | ⟨-, -, h9⟩; exact absurd h9 hU; exact h9; exact absurd (h9.symm.trans c76) (by decide)
                      exact gIret S Y rfl (⟨Or.inr ⟨hG, Or.inr (Or.inr (Or.inr (Or.inl ⟨c67, by rw [if_pos h41]⟩)))⟩, hac, Or.inl (Ko_rf _)⟩) dX0_node_92
                    · skip
                      refine lv_iconst (v := 0) hx hb dX0_node_79 (by decide) ?_
                      refine lv_goto (tgt := 92) hx hb dX0_node_80 (by decide) ?_
                      have h41 : ¬ α 4 x.toNatClampNeg = 1 := fun h9 => c76 (Ac_d1 hac h_x h9).1
                      exact gIret S Y rfl (⟨Or.inr ⟨hG, Or.inr (Or.inr (Or.inr (Or.inl ⟨c67, by rw [if_neg h41]⟩)))⟩, hac, Or.inl (Ko_rf _)⟩) dX0_node_92
                · skip
                  refine lv_aload_n hx hb dX0_node_58 rfl (lv_at hl 0 rfl) ?_
                  refine x0_g3 S Y dX0_node_59 ?_
                  refine lv_iload_n hx hb dX0_node_62 rfl (lv_at hl 1 rfl) ?_
                  refine x0_l3 S Y (vp60 c1 c7) dX0_node_63 ?_
                  exact gIret S Y rfl (⟨Or.inr ⟨hG, Or.inr (Or.inr (Or.inl ⟨c55, by rw [a3]⟩))⟩, hac, Or.inl (Ko_rf _)⟩) dX0_node_64
              · skip
                refine lv_aload_n hx hb dX0_node_46 rfl (lv_at hl 0 rfl) ?_
                refine x0_g2 S Y dX0_node_47 ?_
                refine lv_iload_n hx hb dX0_node_50 rfl (lv_at hl 1 rfl) ?_
                refine x0_l2 S Y (vp60 c1 c7) dX0_node_51 ?_
                exact gIret S Y rfl (⟨Or.inr ⟨hG, Or.inr (Or.inl ⟨c43, by rw [a2]⟩)⟩, hac, Or.inl (Ko_rf _)⟩) dX0_node_52
            · skip
              refine lv_aload_n hx hb dX0_node_34 rfl (lv_at hl 0 rfl) ?_
              refine x0_g1 S Y dX0_node_35 ?_
              refine lv_iload_n hx hb dX0_node_38 rfl (lv_at hl 1 rfl) ?_
              refine x0_l1 S Y (vp60 c1 c7) dX0_node_39 ?_
              exact gIret S Y rfl (⟨Or.inr ⟨hG, Or.inl ⟨c31, by rw [a1]⟩⟩, hac, Or.inl (Ko_rf _)⟩) dX0_node_40
          · skip
            refine lv_iconst (v := (-1)) hx hb dX0_node_28 (by decide) ?_
            exact gIret S Y rfl (⟨Or.inl ⟨fun h9 => c25 h9.2.2.2, rfl⟩, hac, Or.inl (Ko_rf _)⟩) dX0_node_29
set_option maxHeartbeats 4000000 in
set_option maxRecDepth 100000 in
/-- LeftistHeaps.keyOf -/
theorem c0_keyOf (l : Launch) (D : va_G) (dA : Nat → ClassId) (o : Nat) (q : Nat → Nat) (σ : CS) (α : CS) (x : Int32) (hac : Ac α σ) : gMi l D (wX0 dA o q) (tX0 dA) yX0_keyOf cX0_keyOf 2 (some .int) { frames := 1, cells := 0, slots := 0, locals := 21 } [.ref o, .int x] σ (fun r' σ' => σ' = σ ∧ ((isL α x ∧ r' = α 0 x.toNatClampNeg) ∨ (¬ isL α x ∧ r' = 0))) := by
  intro sz
  refine gEnter (own := RX0) (lv := [(0, .ref o), (1, .int x)]) (wX0_g dA o q) (by decide) rfl (Nat.le_of_ble_eq_true rfl) rfl (fun p e s m below meth c ls S hA Y hl => ?_)
  have hx := S.1
  have hb := S.2.1
  refine lv_aload_n hx hb dX0_keyOf_0 rfl (lv_at hl 0 rfl) ?_
  refine lv_iload_n hx hb dX0_keyOf_1 rfl (lv_at hl 1 rfl) ?_
  refine gCallI (ci := 0) (As := [.int x]) (rest := []) S (wX0_g dA o q) Y hA (c0_isLive l D dA o q σ x) (cwV 1 S.2.2.2.2.1 (lw_V q145 q147 qs9 q25 q148) rfl rfl rfl (by decide +kernel) ⟨Nat.le_of_ble_eq_true rfl, Nat.le_of_ble_eq_true rfl⟩) rfl rfl rfl rfl hl.1 rfl (Nat.le_of_ble_eq_true rfl) dX0_keyOf_2 ⟨Nat.le_refl _, Nat.le_refl _⟩ (fun r1 s1 H locs h_s1 Y => ?_)
  rw [h_s1.1] at Y
  refine lv_if_eq (tgt := 17) hx hb dX0_keyOf_5 (by decide) (fun c5 => ?_) (fun c5 => ?_)
  · skip
    refine lv_iconst (v := 0) hx hb dX0_keyOf_17 (by decide) ?_
    exact gIret S Y rfl (⟨rfl, Or.inr ⟨fun h9 => (h_s1.2.elim (fun h8 => absurd (h8.1.symm.trans c5) (by decide)) (fun h8 => h8.2 ((isL_iff hac).mpr h9))), rfl⟩⟩) dX0_keyOf_18
  · skip
    have hL : isL α x := (isL_iff hac).mp ((h_s1.2.resolve_right (fun h9 => c5 h9.1)).2)
    refine lv_aload_n hx hb dX0_keyOf_8 rfl (lv_at hl 0 rfl) ?_
    refine x0_g0 S Y dX0_keyOf_9 ?_
    refine lv_iload_n hx hb dX0_keyOf_12 rfl (lv_at hl 1 rfl) ?_
    refine x0_l0 S Y hL.1 dX0_keyOf_13 ?_
    refine lv_goto (tgt := 18) hx hb dX0_keyOf_14 (by decide) ?_
    exact gIret S Y rfl (⟨rfl, Or.inl ⟨hL, by rw [hac.1]⟩⟩) dX0_keyOf_18
set_option maxHeartbeats 4000000 in
set_option maxRecDepth 100000 in
/-- LeftistHeaps.size -/
theorem c0_size (l : Launch) (D : va_G) (dA : Nat → ClassId) (o : Nat) (q : Nat → Nat) (σ : CS) (α : CS) (h : Int32) (nh : Nat) (hac : Ac α σ) (e8 : α 8 0 = nI nh) (hnh : nh ≤ 10) : gMi l D (wX0 dA o q) (tX0 dA) yX0_size cX0_size 2 (some .int) { frames := 1, cells := 0, slots := 0, locals := 21 } [.ref o, .int h] σ (fun r' σ' => σ' = σ ∧ ((isH α h ∧ r' = σ 7 h.toNatClampNeg) ∨ (¬ isH α h ∧ r' = -1))) := by
  intro sz
  refine gEnter (own := RX0) (lv := [(0, .ref o), (1, .int h)]) (wX0_g dA o q) (by decide) rfl (Nat.le_of_ble_eq_true rfl) rfl (fun p e s m below meth c ls S hA Y hl => ?_)
  have hx := S.1
  have hb := S.2.1
  have a8 := hac.2.2.2.2.2.2.2.2
  refine lv_aload_n hx hb dX0_size_0 rfl (lv_at hl 0 rfl) ?_
  refine lv_iload_n hx hb dX0_size_1 rfl (lv_at hl 1 rfl) ?_
  refine gCallI (ci := 0) (As := [.int h]) (rest := []) S (wX0_g dA o q) Y hA (c0_isHeap l D dA o q σ h) (cwV 1 S.2.2.2.2.1 (lw_V q109 q111 qs1 q25 q112) rfl rfl rfl (by decide +kernel) ⟨Nat.le_of_ble_eq_true rfl, Nat.le_of_ble_eq_true rfl⟩) rfl rfl rfl rfl hl.1 rfl (Nat.le_of_ble_eq_true rfl) dX0_size_2 ⟨Nat.le_refl _, Nat.le_refl _⟩ (fun r1 q1 H locs h_q1 Y => ?_)
  rw [h_q1.1] at Y
  have y_q1 : (¬ r1 = 0 ∧ isH α h) ∨ (r1 = 0 ∧ ¬ isH α h) := by rcases h_q1.2 with ⟨h9, h8⟩ | ⟨h9, h8⟩; exact Or.inl ⟨by rw [h9]; decide, h8.1, by rw [← a8]; exact h8.2⟩; exact Or.inr ⟨h9, fun h7 => h8 ⟨h7.1, by rw [a8]; exact h7.2⟩⟩
  refine lv_if_eq (tgt := 17) hx hb dX0_size_5 (by decide) (fun c5 => ?_) (fun c5 => ?_)
  · skip
    refine lv_iconst (v := (-1)) hx hb dX0_size_17 (by decide) ?_
    exact gIret S Y rfl (⟨rfl, Or.inr ⟨(y_q1.resolve_left (fun h9 => h9.1 c5)).2, rfl⟩⟩) dX0_size_18
  · skip
    have hI : isH α h := (y_q1.resolve_right (fun h9 => c5 h9.1)).2
    have h_h : vp_in h 10 := vp10 hI.1 hI.2 e8 hnh
    refine lv_aload_n hx hb dX0_size_8 rfl (lv_at hl 0 rfl) ?_
    refine x0_g7 S Y dX0_size_9 ?_
    refine lv_iload_n hx hb dX0_size_12 rfl (lv_at hl 1 rfl) ?_
    refine x0_l7 S Y h_h dX0_size_13 ?_
    refine lv_goto (tgt := 18) hx hb dX0_size_14 (by decide) ?_
    exact gIret S Y rfl (⟨rfl, Or.inl ⟨hI, rfl⟩⟩) dX0_size_18
set_option maxHeartbeats 4000000 in
set_option maxRecDepth 100000 in
/-- LeftistHeaps.topOf -/
theorem c0_topOf (l : Launch) (D : va_G) (dA : Nat → ClassId) (o : Nat) (q : Nat → Nat) (σ : CS) (α : CS) (h : Int32) (nh : Nat) (hac : Ac α σ) (e8 : α 8 0 = nI nh) (hnh : nh ≤ 10) : gMi l D (wX0 dA o q) (tX0 dA) yX0_topOf cX0_topOf 2 (some .int) { frames := 1, cells := 0, slots := 0, locals := 21 } [.ref o, .int h] σ (fun r' σ' => σ' = σ ∧ ((isH α h ∧ r' = α 7 h.toNatClampNeg) ∨ (¬ isH α h ∧ r' = -1))) := by
  intro sz
  refine gEnter (own := RX0) (lv := [(0, .ref o), (1, .int h)]) (wX0_g dA o q) (by decide) rfl (Nat.le_of_ble_eq_true rfl) rfl (fun p e s m below meth c ls S hA Y hl => ?_)
  have hx := S.1
  have hb := S.2.1
  have a8 := hac.2.2.2.2.2.2.2.2
  refine lv_aload_n hx hb dX0_topOf_0 rfl (lv_at hl 0 rfl) ?_
  refine lv_iload_n hx hb dX0_topOf_1 rfl (lv_at hl 1 rfl) ?_
  refine gCallI (ci := 0) (As := [.int h]) (rest := []) S (wX0_g dA o q) Y hA (c0_isHeap l D dA o q σ h) (cwV 1 S.2.2.2.2.1 (lw_V q109 q111 qs1 q25 q112) rfl rfl rfl (by decide +kernel) ⟨Nat.le_of_ble_eq_true rfl, Nat.le_of_ble_eq_true rfl⟩) rfl rfl rfl rfl hl.1 rfl (Nat.le_of_ble_eq_true rfl) dX0_topOf_2 ⟨Nat.le_refl _, Nat.le_refl _⟩ (fun r1 q1 H locs h_q1 Y => ?_)
  rw [h_q1.1] at Y
  have y_q1 : (¬ r1 = 0 ∧ isH α h) ∨ (r1 = 0 ∧ ¬ isH α h) := by rcases h_q1.2 with ⟨h9, h8⟩ | ⟨h9, h8⟩; exact Or.inl ⟨by rw [h9]; decide, h8.1, by rw [← a8]; exact h8.2⟩; exact Or.inr ⟨h9, fun h7 => h8 ⟨h7.1, by rw [a8]; exact h7.2⟩⟩
  refine lv_if_eq (tgt := 17) hx hb dX0_topOf_5 (by decide) (fun c5 => ?_) (fun c5 => ?_)
  · skip
    refine lv_iconst (v := (-1)) hx hb dX0_topOf_17 (by decide) ?_
    exact gIret S Y rfl (⟨rfl, Or.inr ⟨(y_q1.resolve_left (fun h9 => h9.1 c5)).2, rfl⟩⟩) dX0_topOf_18
  · skip
    have hI : isH α h := (y_q1.resolve_right (fun h9 => c5 h9.1)).2
    have h_h : vp_in h 10 := vp10 hI.1 hI.2 e8 hnh
    refine lv_aload_n hx hb dX0_topOf_8 rfl (lv_at hl 0 rfl) ?_
    refine x0_g6 S Y dX0_topOf_9 ?_
    refine lv_iload_n hx hb dX0_topOf_12 rfl (lv_at hl 1 rfl) ?_
    refine x0_l6 S Y h_h dX0_topOf_13 ?_
    refine lv_goto (tgt := 18) hx hb dX0_topOf_14 (by decide) ?_
    exact gIret S Y rfl (⟨rfl, Or.inl ⟨hI, by rw [hac.2.2.2.2.2.2.2.1]⟩⟩) dX0_topOf_18
set_option maxHeartbeats 4000000 in
set_option maxRecDepth 100000 in
/-- LeftistHeaps.insert: a cell is taken, up to the melding -/
theorem x0_ins {p : Program} {l : Launch} {e : Env} {s : State} {m : MethodId} {args : Array Value} {below : List Frame} {meth : Method} {c : Code} {Q : State → Prop} {D : va_G} {dA : Nat → ClassId} {o : Nat} {q : Nat → Nat} {A : Nat → Prop} {H0 : Heap} {α : CS} {h k r : Int32} (S : gS p s m meth c cX0_insert 4 args RX0 (some .int) D (tX0 dA)) (hA : ∀ q, H0.size ≤ q → A q) (σ : CS) (hac : Ac α σ) (h_h : vp_in h 10) (h_i : vp_in (α 6 0 - 1) 60) (e_r : r = α 5 (α 6 0 - 1).toNatClampNeg) (h_r : vp_in r 60) (kk : ∀ (t : CS) (H : Heap) (locs : List Loc) (ls : Array Slot), Ac (take r k α) t → Ko (ins0 h r σ) t → gP D (wX0 dA o q) A H0 t H locs → lv_has ls 4 [(0, .ref o), (1, .int h), (3, .int r)] → W p l e { frames := 5, cells := 0, slots := 0, locals := 122 } s m args below meth c H locs 0 0 Q (F0 m 115 ls [])) (H : Heap) (locs : List Loc) (ls : Array Slot) (Y : gP D (wX0 dA o q) A H0 σ H locs) (hl : lv_has ls 4 [(0, .ref o), (1, .int h), (2, .int k)]) : W p l e { frames := 5, cells := 0, slots := 0, locals := 122 } s m args below meth c H locs 0 0 Q (F0 m 31 ls []) := by
  have hx := S.1
  have hb := S.2.1
  have b6 := hac.2.2.2.2.2.2.1
  refine lv_aload_n hx hb dX0_insert_31 rfl (lv_at hl 0 rfl) ?_
  refine lv_dup hx hb dX0_insert_32 rfl ?_
  refine x0_g15 S Y dX0_insert_33 ?_
  refine lv_iconst (v := 1) hx hb dX0_insert_36 (by decide) ?_
  refine lv_isub hx hb dX0_insert_37 ?_
  refine x0_p15 S Y dX0_insert_38 (fun t2 H locs e_t2 Y => ?_)
  refine lv_aload_n hx hb dX0_insert_41 rfl (lv_at hl 0 rfl) ?_
  refine x0_g12 S Y dX0_insert_42 ?_
  refine lv_aload_n hx hb dX0_insert_45 rfl (lv_at hl 0 rfl) ?_
  refine x0_g15 S Y dX0_insert_46 ?_
  refine x0_l12 S Y (by rw [e_t2]; show vp_in (σ 15 0 - 1) 60; rw [b6]; exact h_i) dX0_insert_49 ?_
  refine lv_topi (fun v1 e_v1 => ?_)
  have e9 : r = v1 := by rw [e_v1, e_t2]; show r = σ 12 (σ 15 0 - 1).toNatClampNeg; rw [hac.2.2.2.2.2.1, b6]; exact e_r
  subst e9
  refine lv_istore_n (lv' := [(3, .int r), (0, .ref o), (1, .int h), (2, .int k)]) hx hb dX0_insert_50 rfl hl (by decide) rfl (fun ls hl => ?_)
  refine lv_aload_n hx hb dX0_insert_51 rfl (lv_at hl 1 rfl) ?_
  refine x0_g0 S Y dX0_insert_52 ?_
  refine lv_iload_n hx hb dX0_insert_55 rfl (lv_at hl 0 rfl) ?_
  refine lv_iload_n hx hb dX0_insert_56 rfl (lv_at hl 3 rfl) ?_
  refine x0_s0 S Y h_r dX0_insert_57 (fun t3 H locs e_t3 Y => ?_)
  refine lv_aload_n hx hb dX0_insert_58 rfl (lv_at hl 1 rfl) ?_
  refine x0_g1 S Y dX0_insert_59 ?_
  refine lv_iload_n hx hb dX0_insert_62 rfl (lv_at hl 0 rfl) ?_
  refine lv_iconst (v := (-1)) hx hb dX0_insert_63 (by decide) ?_
  refine x0_s1 S Y h_r dX0_insert_64 (fun t4 H locs e_t4 Y => ?_)
  refine lv_aload_n hx hb dX0_insert_65 rfl (lv_at hl 1 rfl) ?_
  refine x0_g2 S Y dX0_insert_66 ?_
  refine lv_iload_n hx hb dX0_insert_69 rfl (lv_at hl 0 rfl) ?_
  refine lv_iconst (v := (-1)) hx hb dX0_insert_70 (by decide) ?_
  refine x0_s2 S Y h_r dX0_insert_71 (fun t5 H locs e_t5 Y => ?_)
  refine lv_aload_n hx hb dX0_insert_72 rfl (lv_at hl 1 rfl) ?_
  refine x0_g3 S Y dX0_insert_73 ?_
  refine lv_iload_n hx hb dX0_insert_76 rfl (lv_at hl 0 rfl) ?_
  refine lv_iconst (v := 1) hx hb dX0_insert_77 (by decide) ?_
  refine x0_s3 S Y h_r dX0_insert_78 (fun t6 H locs e_t6 Y => ?_)
  refine lv_aload_n hx hb dX0_insert_79 rfl (lv_at hl 1 rfl) ?_
  refine x0_g4 S Y dX0_insert_80 ?_
  refine lv_iload_n hx hb dX0_insert_83 rfl (lv_at hl 0 rfl) ?_
  refine lv_iconst (v := 1) hx hb dX0_insert_84 (by decide) ?_
  refine x0_s4 S Y h_r dX0_insert_85 (fun t7 H locs e_t7 Y => ?_)
  refine lv_aload_n hx hb dX0_insert_86 rfl (lv_at hl 1 rfl) ?_
  refine x0_g5 S Y dX0_insert_87 ?_
  refine lv_iload_n hx hb dX0_insert_90 rfl (lv_at hl 0 rfl) ?_
  refine lv_iconst (v := 0) hx hb dX0_insert_91 (by decide) ?_
  refine x0_s5 S Y h_r dX0_insert_92 (fun t8 H locs e_t8 Y => ?_)
  refine lv_aload_n hx hb dX0_insert_93 rfl (lv_at hl 1 rfl) ?_
  refine x0_g8 S Y dX0_insert_94 ?_
  refine lv_iload_n hx hb dX0_insert_97 rfl (lv_at hl 0 rfl) ?_
  refine lv_aload_n hx hb dX0_insert_98 rfl (lv_at hl 1 rfl) ?_
  refine x0_g11 S Y dX0_insert_99 ?_
  refine lv_iload_n hx hb dX0_insert_102 rfl (lv_at hl 2 rfl) ?_
  refine x0_l11 S Y h_h dX0_insert_103 ?_
  refine x0_s8 S Y h_r dX0_insert_104 (fun t9 H locs e_t9 Y => ?_)
  refine lv_aload_n hx hb dX0_insert_105 rfl (lv_at hl 1 rfl) ?_
  refine x0_g7 S Y dX0_insert_106 ?_
  refine lv_iload_n hx hb dX0_insert_109 rfl (lv_at hl 2 rfl) ?_
  refine lv_dup2_11 hx hb dX0_insert_110 rfl rfl ?_
  refine x0_l7 S Y h_h dX0_insert_111 ?_
  refine lv_iconst (v := 1) hx hb dX0_insert_112 (by decide) ?_
  refine lv_iadd hx hb dX0_insert_113 ?_
  refine x0_s7 S Y h_h dX0_insert_114 (fun t10 H locs e_t10 Y => ?_)
  obtain ⟨g1, g2⟩ := ins_ac hac e_t2 e_t3 e_t4 e_t5 e_t6 e_t7 e_t8 e_t9 e_t10
  exact kk t10 H locs ls g1 g2 Y (lv_sub hl [1, 2, 0] rfl)
set_option maxHeartbeats 4000000 in
set_option maxRecDepth 100000 in
/-- LeftistHeaps.insert -/
theorem c0_insert (l : Launch) (D : va_G) (dA : Nat → ClassId) (o : Nat) (q : Nat → Nat) (σ : CS) (α : CS) (h k r : Int32) (α' : CS) (hac : Ac α σ) (hi : In α h k r α') : gMi l D (wX0 dA o q) (tX0 dA) yX0_insert cX0_insert 4 (some .int) { frames := 5, cells := 0, slots := 0, locals := 122 } [.ref o, .int h, .int k] σ (fun r' σ' => r' = r ∧ Ac α' σ' ∧ ((r < 0 ∧ Ko σ σ') ∨ (¬ r < 0 ∧ Ko (ins0 h r σ) σ'))) := by
  intro sz
  refine gEnter (own := RX0) (lv := [(0, .ref o), (1, .int h), (2, .int k)]) (wX0_g dA o q) (by decide) rfl (Nat.le_of_ble_eq_true rfl) rfl (fun p e s m below meth c ls S hA Y hl => ?_)
  have hx := S.1
  have hb := S.2.1
  have a6 := hac.2.2.2.2.2.2.1
  have a8 := hac.2.2.2.2.2.2.2.2
  rcases hi with ⟨hn, e8, e9⟩ | ⟨hn, h_h, α1, hcl, hi⟩
  · skip
    refine lv_aload_n hx hb dX0_insert_0 rfl (lv_at hl 0 rfl) ?_
    refine lv_iload_n hx hb dX0_insert_1 rfl (lv_at hl 1 rfl) ?_
    refine gCallI (ci := 0) (As := [.int h]) (rest := []) S (wX0_g dA o q) Y hA (c0_isHeap l D dA o q σ h) (cwV 1 S.2.2.2.2.1 (lw_V q109 q111 qs1 q25 q112) rfl rfl rfl (by decide +kernel) ⟨Nat.le_of_ble_eq_true rfl, Nat.le_of_ble_eq_true rfl⟩) rfl rfl rfl rfl hl.1 rfl (Nat.le_of_ble_eq_true rfl) dX0_insert_2 ⟨Nat.le_refl _, Nat.le_refl _⟩ (fun r1 s1 H locs h_s1 Y => ?_)
    rw [h_s1.1] at Y
    have hz : r1 = 0 := by rcases h_s1.2 with ⟨-, h9⟩ | ⟨h9, -⟩; exact absurd (show isH α h from ⟨h9.1, by rw [← a8]; exact h9.2⟩) hn; exact h9
    refine lv_if_ne (tgt := 10) hx hb dX0_insert_5 (by decide) (fun c5 => ?_) (fun c5 => ?_)
    · skip
      exact absurd hz c5
    · skip
      refine lv_iconst (v := (-1)) hx hb dX0_insert_8 (by decide) ?_
      exact gIret S Y rfl (⟨e8.symm, by rw [e9]; exact hac, Or.inl ⟨by rw [e8]; exact m1_neg, Ko_rf _⟩⟩) dX0_insert_9
  · rcases hcl with ⟨hf0, nh, e8, hnh, hcl⟩ | ⟨hf0, e1⟩
    · rcases hi with ⟨hf1, e7, e9⟩ | ⟨hf1, h_i, e_r, h_r, r2, α2, hmd, e9⟩
      · skip
        refine lv_aload_n hx hb dX0_insert_0 rfl (lv_at hl 0 rfl) ?_
        refine lv_iload_n hx hb dX0_insert_1 rfl (lv_at hl 1 rfl) ?_
        refine gCallI (ci := 0) (As := [.int h]) (rest := []) S (wX0_g dA o q) Y hA (c0_isHeap l D dA o q σ h) (cwV 1 S.2.2.2.2.1 (lw_V q109 q111 qs1 q25 q112) rfl rfl rfl (by decide +kernel) ⟨Nat.le_of_ble_eq_true rfl, Nat.le_of_ble_eq_true rfl⟩) rfl rfl rfl rfl hl.1 rfl (Nat.le_of_ble_eq_true rfl) dX0_insert_2 ⟨Nat.le_refl _, Nat.le_refl _⟩ (fun r1 s1 H locs h_s1 Y => ?_)
        rw [h_s1.1] at Y
        have hz : ¬ r1 = 0 := by rcases h_s1.2 with ⟨h9, -⟩ | ⟨-, h9⟩; rw [h9]; decide; exact absurd (by rw [a8]; exact hn) h9
        refine lv_if_ne (tgt := 10) hx hb dX0_insert_5 (by decide) (fun c5 => ?_) (fun c5 => ?_)
        · skip
          refine lv_aload_n hx hb dX0_insert_10 rfl (lv_at hl 0 rfl) ?_
          refine x0_g15 S Y dX0_insert_11 ?_
          refine lv_if_ne (tgt := 21) hx hb dX0_insert_14 (by decide) (fun c14 => ?_) (fun c14 => ?_)
          · skip
            exact absurd (a6.trans hf0) c14
          · skip
            refine lv_aload_n hx hb dX0_insert_17 rfl (lv_at hl 0 rfl) ?_
            refine gCallV (ci := 0) (As := []) (rest := []) S (wX0_g dA o q) Y hA (c0_clearAll l D dA o q σ α α1 nh hnh e8 hac hcl) (cwV 0 S.2.2.2.2.1 (lw_V q113 q115 qs2 q25 q116) rfl rfl rfl (by decide +kernel) ⟨Nat.le_of_ble_eq_true rfl, Nat.le_of_ble_eq_true rfl⟩) rfl rfl rfl rfl hl.1 rfl (Nat.le_of_ble_eq_true rfl) dX0_insert_18 ⟨Nat.le_refl _, Nat.le_refl _⟩ (fun u1 H locs h_u1 Y => ?_)
            obtain ⟨hac1, hko1⟩ := h_u1
            have b6 := hac1.2.2.2.2.2.2.1
            refine lv_aload_n hx hb dX0_insert_21 rfl (lv_at hl 0 rfl) ?_
            refine x0_g15 S Y dX0_insert_22 ?_
            refine lv_if_ne (tgt := 31) hx hb dX0_insert_25 (by decide) (fun c25 => ?_) (fun c25 => ?_)
            · skip
              exact absurd (b6.trans hf1) c25
            · skip
              refine lv_bipush (v := (-2)) hx hb dX0_insert_28 (by decide) ?_
              exact gIret S Y rfl (⟨e7.symm, by rw [e9]; exact hac1, Or.inl ⟨by rw [e7]; decide, hko1⟩⟩) dX0_insert_30
        · skip
          exact absurd c5 hz
      · skip
        refine lv_aload_n hx hb dX0_insert_0 rfl (lv_at hl 0 rfl) ?_
        refine lv_iload_n hx hb dX0_insert_1 rfl (lv_at hl 1 rfl) ?_
        refine gCallI (ci := 0) (As := [.int h]) (rest := []) S (wX0_g dA o q) Y hA (c0_isHeap l D dA o q σ h) (cwV 1 S.2.2.2.2.1 (lw_V q109 q111 qs1 q25 q112) rfl rfl rfl (by decide +kernel) ⟨Nat.le_of_ble_eq_true rfl, Nat.le_of_ble_eq_true rfl⟩) rfl rfl rfl rfl hl.1 rfl (Nat.le_of_ble_eq_true rfl) dX0_insert_2 ⟨Nat.le_refl _, Nat.le_refl _⟩ (fun r1 s1 H locs h_s1 Y => ?_)
        rw [h_s1.1] at Y
        have hz : ¬ r1 = 0 := by rcases h_s1.2 with ⟨h9, -⟩ | ⟨-, h9⟩; rw [h9]; decide; exact absurd (by rw [a8]; exact hn) h9
        refine lv_if_ne (tgt := 10) hx hb dX0_insert_5 (by decide) (fun c5 => ?_) (fun c5 => ?_)
        · skip
          refine lv_aload_n hx hb dX0_insert_10 rfl (lv_at hl 0 rfl) ?_
          refine x0_g15 S Y dX0_insert_11 ?_
          refine lv_if_ne (tgt := 21) hx hb dX0_insert_14 (by decide) (fun c14 => ?_) (fun c14 => ?_)
          · skip
            exact absurd (a6.trans hf0) c14
          · skip
            refine lv_aload_n hx hb dX0_insert_17 rfl (lv_at hl 0 rfl) ?_
            refine gCallV (ci := 0) (As := []) (rest := []) S (wX0_g dA o q) Y hA (c0_clearAll l D dA o q σ α α1 nh hnh e8 hac hcl) (cwV 0 S.2.2.2.2.1 (lw_V q113 q115 qs2 q25 q116) rfl rfl rfl (by decide +kernel) ⟨Nat.le_of_ble_eq_true rfl, Nat.le_of_ble_eq_true rfl⟩) rfl rfl rfl rfl hl.1 rfl (Nat.le_of_ble_eq_true rfl) dX0_insert_18 ⟨Nat.le_refl _, Nat.le_refl _⟩ (fun u1 H locs h_u1 Y => ?_)
            obtain ⟨hac1, hko1⟩ := h_u1
            have b6 := hac1.2.2.2.2.2.2.1
            refine lv_aload_n hx hb dX0_insert_21 rfl (lv_at hl 0 rfl) ?_
            refine x0_g15 S Y dX0_insert_22 ?_
            refine lv_if_ne (tgt := 31) hx hb dX0_insert_25 (by decide) (fun c25 => ?_) (fun c25 => ?_)
            · skip
              refine x0_ins (α := α1) (h := h) (k := k) (r := r) S hA u1 hac1 h_h h_i e_r h_r ?_ _ _ ls Y (lv_sub hl [0, 1, 2] rfl)
              intro t10 H locs ls hac10 hko10 Y hl
              have hko10 := Ko_tr (Ko_ins hko1 h r) hko10
              refine lv_aload_n hx hb dX0_insert_115 rfl (lv_at hl 0 rfl) ?_
              refine x0_g6 S Y dX0_insert_116 ?_
              refine lv_iload_n hx hb dX0_insert_119 rfl (lv_at hl 1 rfl) ?_
              refine lv_aload_n hx hb dX0_insert_120 rfl (lv_at hl 0 rfl) ?_
              refine lv_aload_n hx hb dX0_insert_121 rfl (lv_at hl 0 rfl) ?_
              refine x0_g6 S Y dX0_insert_122 ?_
              refine lv_iload_n hx hb dX0_insert_125 rfl (lv_at hl 1 rfl) ?_
              refine x0_l6 S Y h_h dX0_insert_126 ?_
              refine lv_topi (fun v2 e_v2 => ?_)
              have e9 : (α1 7 h.toNatClampNeg) = v2 := by rw [e_v2, hac10.2.2.2.2.2.2.2.1]; rfl
              subst e9
              refine lv_iload_n hx hb dX0_insert_127 rfl (lv_at hl 2 rfl) ?_
              refine gCallI (ci := 0) (As := [.int (α1 7 h.toNatClampNeg), .int r]) (rest := [.int h, .ref (q 6)]) S (wX0_g dA o q) Y hA (c0_meldTops l D dA o q t10 (take r k α1) (α1 7 h.toNatClampNeg) r r2 α2 hac10 hmd) (cwV 2 S.2.2.2.2.1 (lw_V q129 q131 qs6 q25 q132) rfl rfl rfl (by decide +kernel) ⟨Nat.le_of_ble_eq_true rfl, Nat.le_of_ble_eq_true rfl⟩) rfl rfl rfl rfl hl.1 rfl (Nat.le_of_ble_eq_true rfl) dX0_insert_128 ⟨Nat.le_refl _, Nat.le_refl _⟩ (fun r11 t11 H locs h_t11 Y => ?_)
              obtain ⟨e_r11, hac11, hko11, -⟩ := h_t11
              rw [e_r11]
              refine x0_s6 S Y h_h dX0_insert_131 (fun t12 H locs e_t12 Y => ?_)
              refine lv_iload_n hx hb dX0_insert_132 rfl (lv_at hl 2 rfl) ?_
              exact gIret S Y rfl (⟨rfl, by rw [e9, e_t12]; exact Ac_top hac11 _ r2, Or.inr ⟨vp_ge h_r, Ko_tr hko10 (Ko_tr hko11 (by rw [e_t12]; exact ⟨rfl, rfl, rfl, rfl, rfl, rfl⟩))⟩⟩) dX0_insert_133
            · skip
              exact absurd (b6.symm.trans c25) hf1
        · skip
          exact absurd c5 hz
    · rw [e1] at hi; rcases hi with ⟨hf1, e7, e9⟩ | ⟨hf1, h_i, e_r, h_r, r2, α2, hmd, e9⟩
      · skip
        refine lv_aload_n hx hb dX0_insert_0 rfl (lv_at hl 0 rfl) ?_
        refine lv_iload_n hx hb dX0_insert_1 rfl (lv_at hl 1 rfl) ?_
        refine gCallI (ci := 0) (As := [.int h]) (rest := []) S (wX0_g dA o q) Y hA (c0_isHeap l D dA o q σ h) (cwV 1 S.2.2.2.2.1 (lw_V q109 q111 qs1 q25 q112) rfl rfl rfl (by decide +kernel) ⟨Nat.le_of_ble_eq_true rfl, Nat.le_of_ble_eq_true rfl⟩) rfl rfl rfl rfl hl.1 rfl (Nat.le_of_ble_eq_true rfl) dX0_insert_2 ⟨Nat.le_refl _, Nat.le_refl _⟩ (fun r1 s1 H locs h_s1 Y => ?_)
        rw [h_s1.1] at Y
        have hz : ¬ r1 = 0 := by rcases h_s1.2 with ⟨h9, -⟩ | ⟨-, h9⟩; rw [h9]; decide; exact absurd (by rw [a8]; exact hn) h9
        refine lv_if_ne (tgt := 10) hx hb dX0_insert_5 (by decide) (fun c5 => ?_) (fun c5 => ?_)
        · skip
          refine lv_aload_n hx hb dX0_insert_10 rfl (lv_at hl 0 rfl) ?_
          refine x0_g15 S Y dX0_insert_11 ?_
          refine lv_if_ne (tgt := 21) hx hb dX0_insert_14 (by decide) (fun c14 => ?_) (fun c14 => ?_)
          · skip
            have hac1 := hac
            have hko1 := Ko_rf σ
            have b6 := hac1.2.2.2.2.2.2.1
            refine lv_aload_n hx hb dX0_insert_21 rfl (lv_at hl 0 rfl) ?_
            refine x0_g15 S Y dX0_insert_22 ?_
            refine lv_if_ne (tgt := 31) hx hb dX0_insert_25 (by decide) (fun c25 => ?_) (fun c25 => ?_)
            · skip
              exact absurd (b6.trans hf1) c25
            · skip
              refine lv_bipush (v := (-2)) hx hb dX0_insert_28 (by decide) ?_
              exact gIret S Y rfl (⟨e7.symm, by rw [e9]; exact hac1, Or.inl ⟨by rw [e7]; decide, hko1⟩⟩) dX0_insert_30
          · skip
            exact absurd (a6.symm.trans c14) hf0
        · skip
          exact absurd c5 hz
      · skip
        refine lv_aload_n hx hb dX0_insert_0 rfl (lv_at hl 0 rfl) ?_
        refine lv_iload_n hx hb dX0_insert_1 rfl (lv_at hl 1 rfl) ?_
        refine gCallI (ci := 0) (As := [.int h]) (rest := []) S (wX0_g dA o q) Y hA (c0_isHeap l D dA o q σ h) (cwV 1 S.2.2.2.2.1 (lw_V q109 q111 qs1 q25 q112) rfl rfl rfl (by decide +kernel) ⟨Nat.le_of_ble_eq_true rfl, Nat.le_of_ble_eq_true rfl⟩) rfl rfl rfl rfl hl.1 rfl (Nat.le_of_ble_eq_true rfl) dX0_insert_2 ⟨Nat.le_refl _, Nat.le_refl _⟩ (fun r1 s1 H locs h_s1 Y => ?_)
        rw [h_s1.1] at Y
        have hz : ¬ r1 = 0 := by rcases h_s1.2 with ⟨h9, -⟩ | ⟨-, h9⟩; rw [h9]; decide; exact absurd (by rw [a8]; exact hn) h9
        refine lv_if_ne (tgt := 10) hx hb dX0_insert_5 (by decide) (fun c5 => ?_) (fun c5 => ?_)
        · skip
          refine lv_aload_n hx hb dX0_insert_10 rfl (lv_at hl 0 rfl) ?_
          refine x0_g15 S Y dX0_insert_11 ?_
          refine lv_if_ne (tgt := 21) hx hb dX0_insert_14 (by decide) (fun c14 => ?_) (fun c14 => ?_)
          · skip
            have hac1 := hac
            have hko1 := Ko_rf σ
            have b6 := hac1.2.2.2.2.2.2.1
            refine lv_aload_n hx hb dX0_insert_21 rfl (lv_at hl 0 rfl) ?_
            refine x0_g15 S Y dX0_insert_22 ?_
            refine lv_if_ne (tgt := 31) hx hb dX0_insert_25 (by decide) (fun c25 => ?_) (fun c25 => ?_)
            · skip
              refine x0_ins (α := α) (h := h) (k := k) (r := r) S hA σ hac1 h_h h_i e_r h_r ?_ _ _ ls Y (lv_sub hl [0, 1, 2] rfl)
              intro t10 H locs ls hac10 hko10 Y hl
              have hko10 := Ko_tr (Ko_ins hko1 h r) hko10
              refine lv_aload_n hx hb dX0_insert_115 rfl (lv_at hl 0 rfl) ?_
              refine x0_g6 S Y dX0_insert_116 ?_
              refine lv_iload_n hx hb dX0_insert_119 rfl (lv_at hl 1 rfl) ?_
              refine lv_aload_n hx hb dX0_insert_120 rfl (lv_at hl 0 rfl) ?_
              refine lv_aload_n hx hb dX0_insert_121 rfl (lv_at hl 0 rfl) ?_
              refine x0_g6 S Y dX0_insert_122 ?_
              refine lv_iload_n hx hb dX0_insert_125 rfl (lv_at hl 1 rfl) ?_
              refine x0_l6 S Y h_h dX0_insert_126 ?_
              refine lv_topi (fun v2 e_v2 => ?_)
              have e9 : (α 7 h.toNatClampNeg) = v2 := by rw [e_v2, hac10.2.2.2.2.2.2.2.1]; rfl
              subst e9
              refine lv_iload_n hx hb dX0_insert_127 rfl (lv_at hl 2 rfl) ?_
              refine gCallI (ci := 0) (As := [.int (α 7 h.toNatClampNeg), .int r]) (rest := [.int h, .ref (q 6)]) S (wX0_g dA o q) Y hA (c0_meldTops l D dA o q t10 (take r k α) (α 7 h.toNatClampNeg) r r2 α2 hac10 hmd) (cwV 2 S.2.2.2.2.1 (lw_V q129 q131 qs6 q25 q132) rfl rfl rfl (by decide +kernel) ⟨Nat.le_of_ble_eq_true rfl, Nat.le_of_ble_eq_true rfl⟩) rfl rfl rfl rfl hl.1 rfl (Nat.le_of_ble_eq_true rfl) dX0_insert_128 ⟨Nat.le_refl _, Nat.le_refl _⟩ (fun r11 t11 H locs h_t11 Y => ?_)
              obtain ⟨e_r11, hac11, hko11, -⟩ := h_t11
              rw [e_r11]
              refine x0_s6 S Y h_h dX0_insert_131 (fun t12 H locs e_t12 Y => ?_)
              refine lv_iload_n hx hb dX0_insert_132 rfl (lv_at hl 2 rfl) ?_
              exact gIret S Y rfl (⟨rfl, by rw [e9, e_t12]; exact Ac_top hac11 _ r2, Or.inr ⟨vp_ge h_r, Ko_tr hko10 (Ko_tr hko11 (by rw [e_t12]; exact ⟨rfl, rfl, rfl, rfl, rfl, rfl⟩))⟩⟩) dX0_insert_133
            · skip
              exact absurd (b6.symm.trans c25) hf1
          · skip
            exact absurd (a6.symm.trans c14) hf0
        · skip
          exact absurd c5 hz
set_option maxHeartbeats 4000000 in
set_option maxRecDepth 100000 in
/-- LeftistHeaps.init: its loop -/
theorem x0_ini {p : Program} {l : Launch} {e : Env} {s : State} {m : MethodId} {args : Array Value} {below : List Frame} {meth : Method} {c : Code} {Q : State → Prop} {D : va_G} {dA : Nat → ClassId} {o : Nat} {q : Nat → Nat} {A : Nat → Prop} {H0 : Heap} {σ0 : CS} (S : gS p s m meth c cX0_init_2 2 args RX0 none D (tX0 dA)) (hA : ∀ q, H0.size ≤ q → A q) (kk : ∀ (σ : CS) (H : Heap) (locs : List Loc) (ls : Array Slot), σ 12 = ipile 60 (σ0 12) → σ 4 = zst 60 (σ0 4) → Ex [4, 12] σ0 σ → gP D (wX0 dA o q) A H0 σ H locs → lv_has ls 2 [(0, .ref o)] → W p l e { frames := 0, cells := 0, slots := 0, locals := 0 } s m args below meth c H locs 0 0 Q (F0 m 31 ls [])) : ∀ (n k : Nat) (σ : CS) (H : Heap) (locs : List Loc) (ls : Array Slot), k + n = 60 → σ 12 = ipile k (σ0 12) → σ 4 = zst k (σ0 4) → Ex [4, 12] σ0 σ → gP D (wX0 dA o q) A H0 σ H locs → lv_has ls 2 [(0, .ref o), (1, .int (nI k))] → W p l e { frames := 0, cells := 0, slots := 0, locals := 0 } s m args below meth c H locs 0 0 Q (F0 m 2 ls []) := by
  have hx := S.1
  have hb := S.2.1
  intro n
  induction n with
  | zero =>
    intro k σ H locs ls hk e12 e4 hE Y hl
    have hk : k = 60 := hk
    subst hk
    refine lv_iload_n hx hb dX0_init_2_2 rfl (lv_at hl 1 rfl) ?_
    refine lv_bipush (v := 60) hx hb dX0_init_2_3 (by decide) ?_
    refine lv_icmp_ge (tgt := 31) hx hb dX0_init_2_5 (by decide) (fun c5 => ?_) (fun c5 => ?_)
    · skip
      exact kk σ H locs ls e12 e4 hE Y (lv_sub hl [0] rfl)
    · skip
      exact absurd (by decide +kernel : (60 : Int32) ≤ nI 60) c5
  | succ n ih =>
    intro k σ H locs ls hk e12 e4 hE Y hl
    have h_k : vp_in (nI k) 60 := vp_in_nI (by omega) (by decide)
    refine lv_iload_n hx hb dX0_init_2_2 rfl (lv_at hl 1 rfl) ?_
    refine lv_bipush (v := 60) hx hb dX0_init_2_3 (by decide) ?_
    refine lv_icmp_ge (tgt := 31) hx hb dX0_init_2_5 (by decide) (fun c5 => ?_) (fun c5 => ?_)
    · skip
      exact absurd c5 (nI_ge (b := 60) (by omega) (by decide))
    · skip
      refine lv_aload_n hx hb dX0_init_2_8 rfl (lv_at hl 0 rfl) ?_
      refine x0_g12 S Y dX0_init_2_9 ?_
      refine lv_iload_n hx hb dX0_init_2_12 rfl (lv_at hl 1 rfl) ?_
      refine lv_bipush (v := 59) hx hb dX0_init_2_13 (by decide) ?_
      refine lv_iload_n hx hb dX0_init_2_15 rfl (lv_at hl 1 rfl) ?_
      refine lv_isub hx hb dX0_init_2_16 ?_
      refine x0_s12 S Y h_k dX0_init_2_17 (fun t1 H locs e_t1 Y => ?_)
      refine lv_aload_n hx hb dX0_init_2_18 rfl (lv_at hl 0 rfl) ?_
      refine x0_g4 S Y dX0_init_2_19 ?_
      refine lv_iload_n hx hb dX0_init_2_22 rfl (lv_at hl 1 rfl) ?_
      refine lv_iconst (v := 0) hx hb dX0_init_2_23 (by decide) ?_
      refine x0_s4 S Y h_k dX0_init_2_24 (fun t2 H locs e_t2 Y => ?_)
      refine lv_iinc (v := nI (k + 1)) (lv' := [(1, .int (nI (k + 1))), (0, .ref o)]) hx hb dX0_init_2_25 hl (k := 1) rfl (nI_1 _) (by decide) rfl (fun ls hl => ?_)
      refine lv_goto (tgt := 2) hx hb dX0_init_2_28 (by decide) ?_
      exact ih (k + 1) t2 H locs ls (by omega) (by rw [e_t2, e_t1]; show upd (σ 12) (nI k).toNatClampNeg (59 - nI k) = _; rw [nI_clamp (by omega), e12]; exact ipile_s k _) (by rw [e_t2, e_t1]; show upd (σ 4) (nI k).toNatClampNeg (vp_nar .boolean 0) = _; rw [nI_clamp (by omega), e4, bz0]; exact zst_s k _) (Ex_tr hE (by rw [e_t2, e_t1]; exact Ex_tr (Ex_up (by decide)) (Ex_up (by decide)))) Y (lv_sub hl [1, 0] rfl)
set_option maxHeartbeats 4000000 in
set_option maxRecDepth 100000 in
/-- LeftistHeaps.init -/
theorem c0_init2 (l : Launch) (D : va_G) (dA : Nat → ClassId) (o : Nat) (q : Nat → Nat) (σ : CS)  : gMv l D (wX0 dA o q) (tX0 dA) yX0_init_2 cX0_init_2 2 none { frames := 0, cells := 0, slots := 0, locals := 0 } [.ref o] σ (fun σ' => σ' 12 = ipile 60 (σ 12) ∧ σ' 4 = zst 60 (σ 4) ∧ σ' 15 0 = 60 ∧ σ' 16 0 = 0 ∧ σ' 17 0 = 0 ∧ Ex [4, 12, 15, 16, 17] σ σ') := by
  intro sz
  refine gEnter (own := RX0) (lv := [(0, .ref o)]) (wX0_g dA o q) (by decide) rfl (Nat.le_of_ble_eq_true rfl) rfl (fun p e s m below meth c ls S hA Y hl => ?_)
  have hx := S.1
  have hb := S.2.1
  refine lv_iconst (v := 0) hx hb dX0_init_2_0 (by decide) ?_
  refine lv_istore_n (lv' := [(1, .int 0), (0, .ref o)]) hx hb dX0_init_2_1 rfl hl (by decide) rfl (fun ls hl => ?_)
  refine x0_ini (σ0 := σ) S hA ?_ 60 0 σ _ _ ls rfl (ipile_0 _).symm (zst_0 _).symm (Ex_rf _ _) Y (lv_sub hl [1, 0] rfl)
  intro σ1 H locs ls e12 e4 hE Y hl
  refine lv_aload_n hx hb dX0_init_2_31 rfl (lv_at hl 0 rfl) ?_
  refine lv_bipush (v := 60) hx hb dX0_init_2_32 (by decide) ?_
  refine x0_p15 S Y dX0_init_2_34 (fun t1 H locs e_t1 Y => ?_)
  refine lv_aload_n hx hb dX0_init_2_37 rfl (lv_at hl 0 rfl) ?_
  refine lv_iconst (v := 0) hx hb dX0_init_2_38 (by decide) ?_
  refine x0_p16 S Y dX0_init_2_39 (fun t2 H locs e_t2 Y => ?_)
  refine lv_aload_n hx hb dX0_init_2_42 rfl (lv_at hl 0 rfl) ?_
  refine lv_iconst (v := 0) hx hb dX0_init_2_43 (by decide) ?_
  refine x0_p17 S Y dX0_init_2_44 (fun t3 H locs e_t3 Y => ?_)
  exact gVret S Y (by rw [e_t3, e_t2, e_t1]; exact ⟨e12, e4, rfl, rfl, rfl, Ex_tr (b := σ1) (fun j hj => hE j (fun h9 => hj (by revert h9; simp only [List.mem_cons, List.not_mem_nil, or_false]; omega))) (Ex_tr (Ex_tr (Ex_up (by decide)) (Ex_up (by decide))) (Ex_up (by decide)))⟩) dX0_init_2_47
end
section
set_option maxHeartbeats 4000000 in
set_option maxRecDepth 100000 in
/-- LeftistHeaps(): its arrays are made, then init -/
theorem c0_new (l : Launch) (D : va_G) (o sz : Nat) : Met l yX0_init (ws_ yX0_init cX0_init 1 none) { frames := 1, cells := 15, slots := 2970, locals := 21 } (va_Pc [.ref o] (fun U => U.heap.size = sz ∧ va_P D vwCl [(o, .inr (0, [.null, .null, .null, .null, .null, .null, .null, .null, .null, .null, .null, .null, .null, .null, .null, .int 0, .int 0, .int 0]))] U.heap ∧ va_K D vwCl [] U ∧ va_D (fun _ => True) [(o, .inr (0, [.null, .null, .null, .null, .null, .null, .null, .null, .null, .null, .null, .null, .null, .null, .null, .int 0, .int 0, .int 0]))])) (va_Qv (fun u : (Nat → ClassId) × (Nat → Nat) × CS => u.2.2 12 = ipile 60 (fun _ => 0) ∧ u.2.2 4 = zst 60 (fun _ => 0) ∧ u.2.2 15 0 = 60 ∧ u.2.2 16 0 = 0 ∧ u.2.2 17 0 = 0 ∧ Ex [4, 12, 15, 16, 17] (fun _ _ => 0) u.2.2) (fun u t => gAf D (wX0 u.1 o u.2.1) (tX0 u.1) (va_A [(o, .inr (0, [.null, .null, .null, .null, .null, .null, .null, .null, .null, .null, .null, .null, .null, .null, .null, .int 0, .int 0, .int 0]))] sz) u.2.2 t) (va_A [(o, .inr (0, [.null, .null, .null, .null, .null, .null, .null, .null, .null, .null, .null, .null, .null, .null, .null, .int 0, .int 0, .int 0]))] sz)) 15 2970 (va_A [(o, .inr (0, [.null, .null, .null, .null, .null, .null, .null, .null, .null, .null, .null, .null, .null, .null, .null, .int 0, .int 0, .int 0]))] sz) := by
  refine Met.ofW (cc := cX0_init) (maxL := 1) (ret := none) (by decide) rfl ?_
  intro p e s m args below meth c s₁ B hml hv
  obtain ⟨rfl, hsz, hP, hK, hD0⟩ := hv
  have hx := B.exec
  have hb := B.bytes
  have hr := B.returns
  have hts := atoms_spec (ws := ws_ yX0_init cX0_init 1 none) B.pre
  have hts : ∀ w ∈ lw_all, w.before _ s = true := fun w h => hts w (List.mem_cons_of_mem _ h)
  have hown : s.vm.findClass RX0 = some m.cls := findClass_of_methodNamed B.named
  have hlocks := B.notSynchronized
  have hin : meth.name = "<init>" := (name_of_methodNamed B.named B.method).1
  subst hsz
  have hD := hD0.self (sz := s.heap.size)
  generalize hAe : va_A [(o, .inr (0, [.null, .null, .null, .null, .null, .null, .null, .null, .null, .null, .null, .null, .null, .null, .null, .int 0, .int 0, .int 0]))] s.heap.size = A at hD ⊢
  have hA : ∀ q : Nat, s.heap.size ≤ q → A q := fun q h => by rw [← hAe]; exact Or.inr h
  have hS : va_S A s.heap s.heap [] := va_S.rf
  have hl := lv_entry ([.ref o]) (n := 1) (Nat.le_of_ble_eq_true rfl)
  rw [lg_entry_eq]
  generalize (lg_sl ([.ref o]) ++ List.replicate (1 - (lg_sl ([.ref o])).length) Slot.unset).toArray = ls at hl ⊢
  have hl : lv_has ls 1 [(0, .ref o)] := hl
  refine lv_aload_n hx hb dX0_init_0 rfl (lv_at hl 0 rfl) ?_
  refine W.objInit hx hb hown (hts _ q32) (hts _ q33) (hts _ q34) rfl (by rw [hml]; exact hl.1) rfl dX0_init_1 (Nat.le_of_ble_eq_true rfl) (Nat.le_of_ble_eq_true rfl) ?_
  refine W.eq (g2 := F0 m 4 ls []) rfl ?_
  refine lv_aload_n hx hb dX0_init_4 rfl (lv_at hl 0 rfl) ?_
  refine lv_bipush (v := 60) hx hb dX0_init_5 (by decide) ?_
  refine va_newa (atype := .int) (a0 := (60, .inl (fun _ => 0))) hx hb (hts _ q94) (ty := .int) rfl hK hP hD hS hA (fun _ => rfl) (by decide) (by decide) (by decide) (Nat.le_of_ble_eq_true rfl) (Nat.le_of_ble_eq_true rfl) dX0_init_7 (fun b0 a0 H hK hP hD hS => ?_)
  refine W.widen (k := 1) (n := 60) (Nat.le_of_ble_eq_true rfl) (Nat.le_of_ble_eq_true rfl) ?_
  have hK : va_K D vwCl [(a0, .int)] s := hK
  refine va_putF (D := D) (ci := 0) (v := .ref b0) (ty := .array .int) (C := RX0) (T := TX0) (N := 18) hx hb hts in_X0 tyX0 tyX0_ok nmX0 hown hK hP hD hS 0 rfl rfl 0 (by decide) (hts _ q39) (fun _ h9 => h9) rfl hin rfl (by decide +kernel) rfl rfl (Nat.le_of_ble_eq_true rfl) dX0_init_9 (fun H locs hP hD hS => ?_)
  have hP : va_P D vwCl [(o, .inr (0, [.ref b0, .null, .null, .null, .null, .null, .null, .null, .null, .null, .null, .null, .null, .null, .null, .int 0, .int 0, .int 0])), (b0, .inl (a0, 60, .inl (fun _ => 0)))] H := hP
  have hD : va_D A [(o, .inr (0, [.ref b0, .null, .null, .null, .null, .null, .null, .null, .null, .null, .null, .null, .null, .null, .null, .int 0, .int 0, .int 0])), (b0, .inl (a0, 60, .inl (fun _ => 0)))] := hD
  refine lv_aload_n hx hb dX0_init_12 rfl (lv_at hl 0 rfl) ?_
  refine lv_bipush (v := 60) hx hb dX0_init_13 (by decide) ?_
  refine va_newa (atype := .int) (a0 := (60, .inl (fun _ => 0))) hx hb (hts _ q94) (ty := .int) rfl hK hP hD hS hA (fun _ => rfl) (by decide) (by decide) (by decide) (Nat.le_of_ble_eq_true rfl) (Nat.le_of_ble_eq_true rfl) dX0_init_15 (fun b1 a1 H hK hP hD hS => ?_)
  refine W.widen (k := 2) (n := 120) (Nat.le_of_ble_eq_true rfl) (Nat.le_of_ble_eq_true rfl) ?_
  have hK : va_K D vwCl [(a0, .int), (a1, .int)] s := hK
  refine va_putF (D := D) (ci := 0) (v := .ref b1) (ty := .array .int) (C := RX0) (T := TX0) (N := 18) hx hb hts in_X0 tyX0 tyX0_ok nmX0 hown hK hP hD hS 0 rfl rfl 1 (by decide) (hts _ q40) (fun _ h9 => h9) rfl hin rfl (by decide +kernel) rfl rfl (Nat.le_of_ble_eq_true rfl) dX0_init_17 (fun H locs hP hD hS => ?_)
  have hP : va_P D vwCl [(o, .inr (0, [.ref b0, .ref b1, .null, .null, .null, .null, .null, .null, .null, .null, .null, .null, .null, .null, .null, .int 0, .int 0, .int 0])), (b0, .inl (a0, 60, .inl (fun _ => 0))), (b1, .inl (a1, 60, .inl (fun _ => 0)))] H := hP
  have hD : va_D A [(o, .inr (0, [.ref b0, .ref b1, .null, .null, .null, .null, .null, .null, .null, .null, .null, .null, .null, .null, .null, .int 0, .int 0, .int 0])), (b0, .inl (a0, 60, .inl (fun _ => 0))), (b1, .inl (a1, 60, .inl (fun _ => 0)))] := hD
  refine lv_aload_n hx hb dX0_init_20 rfl (lv_at hl 0 rfl) ?_
  refine lv_bipush (v := 60) hx hb dX0_init_21 (by decide) ?_
  refine va_newa (atype := .int) (a0 := (60, .inl (fun _ => 0))) hx hb (hts _ q94) (ty := .int) rfl hK hP hD hS hA (fun _ => rfl) (by decide) (by decide) (by decide) (Nat.le_of_ble_eq_true rfl) (Nat.le_of_ble_eq_true rfl) dX0_init_23 (fun b2 a2 H hK hP hD hS => ?_)
  refine W.widen (k := 3) (n := 180) (Nat.le_of_ble_eq_true rfl) (Nat.le_of_ble_eq_true rfl) ?_
  have hK : va_K D vwCl [(a0, .int), (a1, .int), (a2, .int)] s := hK
  refine va_putF (D := D) (ci := 0) (v := .ref b2) (ty := .array .int) (C := RX0) (T := TX0) (N := 18) hx hb hts in_X0 tyX0 tyX0_ok nmX0 hown hK hP hD hS 0 rfl rfl 2 (by decide) (hts _ q41) (fun _ h9 => h9) rfl hin rfl (by decide +kernel) rfl rfl (Nat.le_of_ble_eq_true rfl) dX0_init_25 (fun H locs hP hD hS => ?_)
  have hP : va_P D vwCl [(o, .inr (0, [.ref b0, .ref b1, .ref b2, .null, .null, .null, .null, .null, .null, .null, .null, .null, .null, .null, .null, .int 0, .int 0, .int 0])), (b0, .inl (a0, 60, .inl (fun _ => 0))), (b1, .inl (a1, 60, .inl (fun _ => 0))), (b2, .inl (a2, 60, .inl (fun _ => 0)))] H := hP
  have hD : va_D A [(o, .inr (0, [.ref b0, .ref b1, .ref b2, .null, .null, .null, .null, .null, .null, .null, .null, .null, .null, .null, .null, .int 0, .int 0, .int 0])), (b0, .inl (a0, 60, .inl (fun _ => 0))), (b1, .inl (a1, 60, .inl (fun _ => 0))), (b2, .inl (a2, 60, .inl (fun _ => 0)))] := hD
  refine lv_aload_n hx hb dX0_init_28 rfl (lv_at hl 0 rfl) ?_
  refine lv_bipush (v := 60) hx hb dX0_init_29 (by decide) ?_
  refine va_newa (atype := .int) (a0 := (60, .inl (fun _ => 0))) hx hb (hts _ q94) (ty := .int) rfl hK hP hD hS hA (fun _ => rfl) (by decide) (by decide) (by decide) (Nat.le_of_ble_eq_true rfl) (Nat.le_of_ble_eq_true rfl) dX0_init_31 (fun b3 a3 H hK hP hD hS => ?_)
  refine W.widen (k := 4) (n := 240) (Nat.le_of_ble_eq_true rfl) (Nat.le_of_ble_eq_true rfl) ?_
  have hK : va_K D vwCl [(a0, .int), (a1, .int), (a2, .int), (a3, .int)] s := hK
  refine va_putF (D := D) (ci := 0) (v := .ref b3) (ty := .array .int) (C := RX0) (T := TX0) (N := 18) hx hb hts in_X0 tyX0 tyX0_ok nmX0 hown hK hP hD hS 0 rfl rfl 3 (by decide) (hts _ q42) (fun _ h9 => h9) rfl hin rfl (by decide +kernel) rfl rfl (Nat.le_of_ble_eq_true rfl) dX0_init_33 (fun H locs hP hD hS => ?_)
  have hP : va_P D vwCl [(o, .inr (0, [.ref b0, .ref b1, .ref b2, .ref b3, .null, .null, .null, .null, .null, .null, .null, .null, .null, .null, .null, .int 0, .int 0, .int 0])), (b0, .inl (a0, 60, .inl (fun _ => 0))), (b1, .inl (a1, 60, .inl (fun _ => 0))), (b2, .inl (a2, 60, .inl (fun _ => 0))), (b3, .inl (a3, 60, .inl (fun _ => 0)))] H := hP
  have hD : va_D A [(o, .inr (0, [.ref b0, .ref b1, .ref b2, .ref b3, .null, .null, .null, .null, .null, .null, .null, .null, .null, .null, .null, .int 0, .int 0, .int 0])), (b0, .inl (a0, 60, .inl (fun _ => 0))), (b1, .inl (a1, 60, .inl (fun _ => 0))), (b2, .inl (a2, 60, .inl (fun _ => 0))), (b3, .inl (a3, 60, .inl (fun _ => 0)))] := hD
  refine lv_aload_n hx hb dX0_init_36 rfl (lv_at hl 0 rfl) ?_
  refine lv_bipush (v := 60) hx hb dX0_init_37 (by decide) ?_
  refine va_newa (atype := .boolean) (a0 := (60, .inl (fun _ => 0))) hx hb (hts _ q95) (ty := .boolean) rfl hK hP hD hS hA (fun _ => rfl) (by decide) (by decide) (by decide) (Nat.le_of_ble_eq_true rfl) (Nat.le_of_ble_eq_true rfl) dX0_init_39 (fun b4 a4 H hK hP hD hS => ?_)
  refine W.widen (k := 5) (n := 300) (Nat.le_of_ble_eq_true rfl) (Nat.le_of_ble_eq_true rfl) ?_
  have hK : va_K D vwCl [(a0, .int), (a1, .int), (a2, .int), (a3, .int), (a4, .boolean)] s := hK
  refine va_putF (D := D) (ci := 0) (v := .ref b4) (ty := .array .boolean) (C := RX0) (T := TX0) (N := 18) hx hb hts in_X0 tyX0 tyX0_ok nmX0 hown hK hP hD hS 0 rfl rfl 4 (by decide) (hts _ q43) (fun _ h9 => h9) rfl hin rfl (by decide +kernel) rfl rfl (Nat.le_of_ble_eq_true rfl) dX0_init_41 (fun H locs hP hD hS => ?_)
  have hP : va_P D vwCl [(o, .inr (0, [.ref b0, .ref b1, .ref b2, .ref b3, .ref b4, .null, .null, .null, .null, .null, .null, .null, .null, .null, .null, .int 0, .int 0, .int 0])), (b0, .inl (a0, 60, .inl (fun _ => 0))), (b1, .inl (a1, 60, .inl (fun _ => 0))), (b2, .inl (a2, 60, .inl (fun _ => 0))), (b3, .inl (a3, 60, .inl (fun _ => 0))), (b4, .inl (a4, 60, .inl (fun _ => 0)))] H := hP
  have hD : va_D A [(o, .inr (0, [.ref b0, .ref b1, .ref b2, .ref b3, .ref b4, .null, .null, .null, .null, .null, .null, .null, .null, .null, .null, .int 0, .int 0, .int 0])), (b0, .inl (a0, 60, .inl (fun _ => 0))), (b1, .inl (a1, 60, .inl (fun _ => 0))), (b2, .inl (a2, 60, .inl (fun _ => 0))), (b3, .inl (a3, 60, .inl (fun _ => 0))), (b4, .inl (a4, 60, .inl (fun _ => 0)))] := hD
  refine lv_aload_n hx hb dX0_init_44 rfl (lv_at hl 0 rfl) ?_
  refine lv_bipush (v := 60) hx hb dX0_init_45 (by decide) ?_
  refine va_newa (atype := .boolean) (a0 := (60, .inl (fun _ => 0))) hx hb (hts _ q95) (ty := .boolean) rfl hK hP hD hS hA (fun _ => rfl) (by decide) (by decide) (by decide) (Nat.le_of_ble_eq_true rfl) (Nat.le_of_ble_eq_true rfl) dX0_init_47 (fun b5 a5 H hK hP hD hS => ?_)
  refine W.widen (k := 6) (n := 360) (Nat.le_of_ble_eq_true rfl) (Nat.le_of_ble_eq_true rfl) ?_
  have hK : va_K D vwCl [(a0, .int), (a1, .int), (a2, .int), (a3, .int), (a4, .boolean), (a5, .boolean)] s := hK
  refine va_putF (D := D) (ci := 0) (v := .ref b5) (ty := .array .boolean) (C := RX0) (T := TX0) (N := 18) hx hb hts in_X0 tyX0 tyX0_ok nmX0 hown hK hP hD hS 0 rfl rfl 5 (by decide) (hts _ q44) (fun _ h9 => h9) rfl hin rfl (by decide +kernel) rfl rfl (Nat.le_of_ble_eq_true rfl) dX0_init_49 (fun H locs hP hD hS => ?_)
  have hP : va_P D vwCl [(o, .inr (0, [.ref b0, .ref b1, .ref b2, .ref b3, .ref b4, .ref b5, .null, .null, .null, .null, .null, .null, .null, .null, .null, .int 0, .int 0, .int 0])), (b0, .inl (a0, 60, .inl (fun _ => 0))), (b1, .inl (a1, 60, .inl (fun _ => 0))), (b2, .inl (a2, 60, .inl (fun _ => 0))), (b3, .inl (a3, 60, .inl (fun _ => 0))), (b4, .inl (a4, 60, .inl (fun _ => 0))), (b5, .inl (a5, 60, .inl (fun _ => 0)))] H := hP
  have hD : va_D A [(o, .inr (0, [.ref b0, .ref b1, .ref b2, .ref b3, .ref b4, .ref b5, .null, .null, .null, .null, .null, .null, .null, .null, .null, .int 0, .int 0, .int 0])), (b0, .inl (a0, 60, .inl (fun _ => 0))), (b1, .inl (a1, 60, .inl (fun _ => 0))), (b2, .inl (a2, 60, .inl (fun _ => 0))), (b3, .inl (a3, 60, .inl (fun _ => 0))), (b4, .inl (a4, 60, .inl (fun _ => 0))), (b5, .inl (a5, 60, .inl (fun _ => 0)))] := hD
  refine lv_aload_n hx hb dX0_init_52 rfl (lv_at hl 0 rfl) ?_
  refine lv_bipush (v := 10) hx hb dX0_init_53 (by decide) ?_
  refine va_newa (atype := .int) (a0 := (10, .inl (fun _ => 0))) hx hb (hts _ q94) (ty := .int) rfl hK hP hD hS hA (fun _ => rfl) (by decide) (by decide) (by decide) (Nat.le_of_ble_eq_true rfl) (Nat.le_of_ble_eq_true rfl) dX0_init_55 (fun b6 a6 H hK hP hD hS => ?_)
  refine W.widen (k := 7) (n := 370) (Nat.le_of_ble_eq_true rfl) (Nat.le_of_ble_eq_true rfl) ?_
  have hK : va_K D vwCl [(a0, .int), (a1, .int), (a2, .int), (a3, .int), (a4, .boolean), (a5, .boolean), (a6, .int)] s := hK
  refine va_putF (D := D) (ci := 0) (v := .ref b6) (ty := .array .int) (C := RX0) (T := TX0) (N := 18) hx hb hts in_X0 tyX0 tyX0_ok nmX0 hown hK hP hD hS 0 rfl rfl 6 (by decide) (hts _ q45) (fun _ h9 => h9) rfl hin rfl (by decide +kernel) rfl rfl (Nat.le_of_ble_eq_true rfl) dX0_init_57 (fun H locs hP hD hS => ?_)
  have hP : va_P D vwCl [(o, .inr (0, [.ref b0, .ref b1, .ref b2, .ref b3, .ref b4, .ref b5, .ref b6, .null, .null, .null, .null, .null, .null, .null, .null, .int 0, .int 0, .int 0])), (b0, .inl (a0, 60, .inl (fun _ => 0))), (b1, .inl (a1, 60, .inl (fun _ => 0))), (b2, .inl (a2, 60, .inl (fun _ => 0))), (b3, .inl (a3, 60, .inl (fun _ => 0))), (b4, .inl (a4, 60, .inl (fun _ => 0))), (b5, .inl (a5, 60, .inl (fun _ => 0))), (b6, .inl (a6, 10, .inl (fun _ => 0)))] H := hP
  have hD : va_D A [(o, .inr (0, [.ref b0, .ref b1, .ref b2, .ref b3, .ref b4, .ref b5, .ref b6, .null, .null, .null, .null, .null, .null, .null, .null, .int 0, .int 0, .int 0])), (b0, .inl (a0, 60, .inl (fun _ => 0))), (b1, .inl (a1, 60, .inl (fun _ => 0))), (b2, .inl (a2, 60, .inl (fun _ => 0))), (b3, .inl (a3, 60, .inl (fun _ => 0))), (b4, .inl (a4, 60, .inl (fun _ => 0))), (b5, .inl (a5, 60, .inl (fun _ => 0))), (b6, .inl (a6, 10, .inl (fun _ => 0)))] := hD
  refine lv_aload_n hx hb dX0_init_60 rfl (lv_at hl 0 rfl) ?_
  refine lv_bipush (v := 10) hx hb dX0_init_61 (by decide) ?_
  refine va_newa (atype := .int) (a0 := (10, .inl (fun _ => 0))) hx hb (hts _ q94) (ty := .int) rfl hK hP hD hS hA (fun _ => rfl) (by decide) (by decide) (by decide) (Nat.le_of_ble_eq_true rfl) (Nat.le_of_ble_eq_true rfl) dX0_init_63 (fun b7 a7 H hK hP hD hS => ?_)
  refine W.widen (k := 8) (n := 380) (Nat.le_of_ble_eq_true rfl) (Nat.le_of_ble_eq_true rfl) ?_
  have hK : va_K D vwCl [(a0, .int), (a1, .int), (a2, .int), (a3, .int), (a4, .boolean), (a5, .boolean), (a6, .int), (a7, .int)] s := hK
  refine va_putF (D := D) (ci := 0) (v := .ref b7) (ty := .array .int) (C := RX0) (T := TX0) (N := 18) hx hb hts in_X0 tyX0 tyX0_ok nmX0 hown hK hP hD hS 0 rfl rfl 7 (by decide) (hts _ q46) (fun _ h9 => h9) rfl hin rfl (by decide +kernel) rfl rfl (Nat.le_of_ble_eq_true rfl) dX0_init_65 (fun H locs hP hD hS => ?_)
  have hP : va_P D vwCl [(o, .inr (0, [.ref b0, .ref b1, .ref b2, .ref b3, .ref b4, .ref b5, .ref b6, .ref b7, .null, .null, .null, .null, .null, .null, .null, .int 0, .int 0, .int 0])), (b0, .inl (a0, 60, .inl (fun _ => 0))), (b1, .inl (a1, 60, .inl (fun _ => 0))), (b2, .inl (a2, 60, .inl (fun _ => 0))), (b3, .inl (a3, 60, .inl (fun _ => 0))), (b4, .inl (a4, 60, .inl (fun _ => 0))), (b5, .inl (a5, 60, .inl (fun _ => 0))), (b6, .inl (a6, 10, .inl (fun _ => 0))), (b7, .inl (a7, 10, .inl (fun _ => 0)))] H := hP
  have hD : va_D A [(o, .inr (0, [.ref b0, .ref b1, .ref b2, .ref b3, .ref b4, .ref b5, .ref b6, .ref b7, .null, .null, .null, .null, .null, .null, .null, .int 0, .int 0, .int 0])), (b0, .inl (a0, 60, .inl (fun _ => 0))), (b1, .inl (a1, 60, .inl (fun _ => 0))), (b2, .inl (a2, 60, .inl (fun _ => 0))), (b3, .inl (a3, 60, .inl (fun _ => 0))), (b4, .inl (a4, 60, .inl (fun _ => 0))), (b5, .inl (a5, 60, .inl (fun _ => 0))), (b6, .inl (a6, 10, .inl (fun _ => 0))), (b7, .inl (a7, 10, .inl (fun _ => 0)))] := hD
  refine lv_aload_n hx hb dX0_init_68 rfl (lv_at hl 0 rfl) ?_
  refine lv_bipush (v := 60) hx hb dX0_init_69 (by decide) ?_
  refine va_newa (atype := .int) (a0 := (60, .inl (fun _ => 0))) hx hb (hts _ q94) (ty := .int) rfl hK hP hD hS hA (fun _ => rfl) (by decide) (by decide) (by decide) (Nat.le_of_ble_eq_true rfl) (Nat.le_of_ble_eq_true rfl) dX0_init_71 (fun b8 a8 H hK hP hD hS => ?_)
  refine W.widen (k := 9) (n := 440) (Nat.le_of_ble_eq_true rfl) (Nat.le_of_ble_eq_true rfl) ?_
  have hK : va_K D vwCl [(a0, .int), (a1, .int), (a2, .int), (a3, .int), (a4, .boolean), (a5, .boolean), (a6, .int), (a7, .int), (a8, .int)] s := hK
  refine va_putF (D := D) (ci := 0) (v := .ref b8) (ty := .array .int) (C := RX0) (T := TX0) (N := 18) hx hb hts in_X0 tyX0 tyX0_ok nmX0 hown hK hP hD hS 0 rfl rfl 8 (by decide) (hts _ q47) (fun _ h9 => h9) rfl hin rfl (by decide +kernel) rfl rfl (Nat.le_of_ble_eq_true rfl) dX0_init_73 (fun H locs hP hD hS => ?_)
  have hP : va_P D vwCl [(o, .inr (0, [.ref b0, .ref b1, .ref b2, .ref b3, .ref b4, .ref b5, .ref b6, .ref b7, .ref b8, .null, .null, .null, .null, .null, .null, .int 0, .int 0, .int 0])), (b0, .inl (a0, 60, .inl (fun _ => 0))), (b1, .inl (a1, 60, .inl (fun _ => 0))), (b2, .inl (a2, 60, .inl (fun _ => 0))), (b3, .inl (a3, 60, .inl (fun _ => 0))), (b4, .inl (a4, 60, .inl (fun _ => 0))), (b5, .inl (a5, 60, .inl (fun _ => 0))), (b6, .inl (a6, 10, .inl (fun _ => 0))), (b7, .inl (a7, 10, .inl (fun _ => 0))), (b8, .inl (a8, 60, .inl (fun _ => 0)))] H := hP
  have hD : va_D A [(o, .inr (0, [.ref b0, .ref b1, .ref b2, .ref b3, .ref b4, .ref b5, .ref b6, .ref b7, .ref b8, .null, .null, .null, .null, .null, .null, .int 0, .int 0, .int 0])), (b0, .inl (a0, 60, .inl (fun _ => 0))), (b1, .inl (a1, 60, .inl (fun _ => 0))), (b2, .inl (a2, 60, .inl (fun _ => 0))), (b3, .inl (a3, 60, .inl (fun _ => 0))), (b4, .inl (a4, 60, .inl (fun _ => 0))), (b5, .inl (a5, 60, .inl (fun _ => 0))), (b6, .inl (a6, 10, .inl (fun _ => 0))), (b7, .inl (a7, 10, .inl (fun _ => 0))), (b8, .inl (a8, 60, .inl (fun _ => 0)))] := hD
  refine lv_aload_n hx hb dX0_init_76 rfl (lv_at hl 0 rfl) ?_
  refine lv_sipush (v := 1100) hx hb dX0_init_77 (by decide) ?_
  refine va_newa (atype := .int) (a0 := (1100, .inl (fun _ => 0))) hx hb (hts _ q94) (ty := .int) rfl hK hP hD hS hA (fun _ => rfl) (by decide) (by decide) (by decide) (Nat.le_of_ble_eq_true rfl) (Nat.le_of_ble_eq_true rfl) dX0_init_80 (fun b9 a9 H hK hP hD hS => ?_)
  refine W.widen (k := 10) (n := 1540) (Nat.le_of_ble_eq_true rfl) (Nat.le_of_ble_eq_true rfl) ?_
  have hK : va_K D vwCl [(a0, .int), (a1, .int), (a2, .int), (a3, .int), (a4, .boolean), (a5, .boolean), (a6, .int), (a7, .int), (a8, .int), (a9, .int)] s := hK
  refine va_putF (D := D) (ci := 0) (v := .ref b9) (ty := .array .int) (C := RX0) (T := TX0) (N := 18) hx hb hts in_X0 tyX0 tyX0_ok nmX0 hown hK hP hD hS 0 rfl rfl 9 (by decide) (hts _ q48) (fun _ h9 => h9) rfl hin rfl (by decide +kernel) rfl rfl (Nat.le_of_ble_eq_true rfl) dX0_init_82 (fun H locs hP hD hS => ?_)
  have hP : va_P D vwCl [(o, .inr (0, [.ref b0, .ref b1, .ref b2, .ref b3, .ref b4, .ref b5, .ref b6, .ref b7, .ref b8, .ref b9, .null, .null, .null, .null, .null, .int 0, .int 0, .int 0])), (b0, .inl (a0, 60, .inl (fun _ => 0))), (b1, .inl (a1, 60, .inl (fun _ => 0))), (b2, .inl (a2, 60, .inl (fun _ => 0))), (b3, .inl (a3, 60, .inl (fun _ => 0))), (b4, .inl (a4, 60, .inl (fun _ => 0))), (b5, .inl (a5, 60, .inl (fun _ => 0))), (b6, .inl (a6, 10, .inl (fun _ => 0))), (b7, .inl (a7, 10, .inl (fun _ => 0))), (b8, .inl (a8, 60, .inl (fun _ => 0))), (b9, .inl (a9, 1100, .inl (fun _ => 0)))] H := hP
  have hD : va_D A [(o, .inr (0, [.ref b0, .ref b1, .ref b2, .ref b3, .ref b4, .ref b5, .ref b6, .ref b7, .ref b8, .ref b9, .null, .null, .null, .null, .null, .int 0, .int 0, .int 0])), (b0, .inl (a0, 60, .inl (fun _ => 0))), (b1, .inl (a1, 60, .inl (fun _ => 0))), (b2, .inl (a2, 60, .inl (fun _ => 0))), (b3, .inl (a3, 60, .inl (fun _ => 0))), (b4, .inl (a4, 60, .inl (fun _ => 0))), (b5, .inl (a5, 60, .inl (fun _ => 0))), (b6, .inl (a6, 10, .inl (fun _ => 0))), (b7, .inl (a7, 10, .inl (fun _ => 0))), (b8, .inl (a8, 60, .inl (fun _ => 0))), (b9, .inl (a9, 1100, .inl (fun _ => 0)))] := hD
  refine lv_aload_n hx hb dX0_init_85 rfl (lv_at hl 0 rfl) ?_
  refine lv_sipush (v := 1100) hx hb dX0_init_86 (by decide) ?_
  refine va_newa (atype := .int) (a0 := (1100, .inl (fun _ => 0))) hx hb (hts _ q94) (ty := .int) rfl hK hP hD hS hA (fun _ => rfl) (by decide) (by decide) (by decide) (Nat.le_of_ble_eq_true rfl) (Nat.le_of_ble_eq_true rfl) dX0_init_89 (fun b10 a10 H hK hP hD hS => ?_)
  refine W.widen (k := 11) (n := 2640) (Nat.le_of_ble_eq_true rfl) (Nat.le_of_ble_eq_true rfl) ?_
  have hK : va_K D vwCl [(a0, .int), (a1, .int), (a2, .int), (a3, .int), (a4, .boolean), (a5, .boolean), (a6, .int), (a7, .int), (a8, .int), (a9, .int), (a10, .int)] s := hK
  refine va_putF (D := D) (ci := 0) (v := .ref b10) (ty := .array .int) (C := RX0) (T := TX0) (N := 18) hx hb hts in_X0 tyX0 tyX0_ok nmX0 hown hK hP hD hS 0 rfl rfl 10 (by decide) (hts _ q49) (fun _ h9 => h9) rfl hin rfl (by decide +kernel) rfl rfl (Nat.le_of_ble_eq_true rfl) dX0_init_91 (fun H locs hP hD hS => ?_)
  have hP : va_P D vwCl [(o, .inr (0, [.ref b0, .ref b1, .ref b2, .ref b3, .ref b4, .ref b5, .ref b6, .ref b7, .ref b8, .ref b9, .ref b10, .null, .null, .null, .null, .int 0, .int 0, .int 0])), (b0, .inl (a0, 60, .inl (fun _ => 0))), (b1, .inl (a1, 60, .inl (fun _ => 0))), (b2, .inl (a2, 60, .inl (fun _ => 0))), (b3, .inl (a3, 60, .inl (fun _ => 0))), (b4, .inl (a4, 60, .inl (fun _ => 0))), (b5, .inl (a5, 60, .inl (fun _ => 0))), (b6, .inl (a6, 10, .inl (fun _ => 0))), (b7, .inl (a7, 10, .inl (fun _ => 0))), (b8, .inl (a8, 60, .inl (fun _ => 0))), (b9, .inl (a9, 1100, .inl (fun _ => 0))), (b10, .inl (a10, 1100, .inl (fun _ => 0)))] H := hP
  have hD : va_D A [(o, .inr (0, [.ref b0, .ref b1, .ref b2, .ref b3, .ref b4, .ref b5, .ref b6, .ref b7, .ref b8, .ref b9, .ref b10, .null, .null, .null, .null, .int 0, .int 0, .int 0])), (b0, .inl (a0, 60, .inl (fun _ => 0))), (b1, .inl (a1, 60, .inl (fun _ => 0))), (b2, .inl (a2, 60, .inl (fun _ => 0))), (b3, .inl (a3, 60, .inl (fun _ => 0))), (b4, .inl (a4, 60, .inl (fun _ => 0))), (b5, .inl (a5, 60, .inl (fun _ => 0))), (b6, .inl (a6, 10, .inl (fun _ => 0))), (b7, .inl (a7, 10, .inl (fun _ => 0))), (b8, .inl (a8, 60, .inl (fun _ => 0))), (b9, .inl (a9, 1100, .inl (fun _ => 0))), (b10, .inl (a10, 1100, .inl (fun _ => 0)))] := hD
  refine lv_aload_n hx hb dX0_init_94 rfl (lv_at hl 0 rfl) ?_
  refine lv_bipush (v := 10) hx hb dX0_init_95 (by decide) ?_
  refine va_newa (atype := .int) (a0 := (10, .inl (fun _ => 0))) hx hb (hts _ q94) (ty := .int) rfl hK hP hD hS hA (fun _ => rfl) (by decide) (by decide) (by decide) (Nat.le_of_ble_eq_true rfl) (Nat.le_of_ble_eq_true rfl) dX0_init_97 (fun b11 a11 H hK hP hD hS => ?_)
  refine W.widen (k := 12) (n := 2650) (Nat.le_of_ble_eq_true rfl) (Nat.le_of_ble_eq_true rfl) ?_
  have hK : va_K D vwCl [(a0, .int), (a1, .int), (a2, .int), (a3, .int), (a4, .boolean), (a5, .boolean), (a6, .int), (a7, .int), (a8, .int), (a9, .int), (a10, .int), (a11, .int)] s := hK
  refine va_putF (D := D) (ci := 0) (v := .ref b11) (ty := .array .int) (C := RX0) (T := TX0) (N := 18) hx hb hts in_X0 tyX0 tyX0_ok nmX0 hown hK hP hD hS 0 rfl rfl 11 (by decide) (hts _ q50) (fun _ h9 => h9) rfl hin rfl (by decide +kernel) rfl rfl (Nat.le_of_ble_eq_true rfl) dX0_init_99 (fun H locs hP hD hS => ?_)
  have hP : va_P D vwCl [(o, .inr (0, [.ref b0, .ref b1, .ref b2, .ref b3, .ref b4, .ref b5, .ref b6, .ref b7, .ref b8, .ref b9, .ref b10, .ref b11, .null, .null, .null, .int 0, .int 0, .int 0])), (b0, .inl (a0, 60, .inl (fun _ => 0))), (b1, .inl (a1, 60, .inl (fun _ => 0))), (b2, .inl (a2, 60, .inl (fun _ => 0))), (b3, .inl (a3, 60, .inl (fun _ => 0))), (b4, .inl (a4, 60, .inl (fun _ => 0))), (b5, .inl (a5, 60, .inl (fun _ => 0))), (b6, .inl (a6, 10, .inl (fun _ => 0))), (b7, .inl (a7, 10, .inl (fun _ => 0))), (b8, .inl (a8, 60, .inl (fun _ => 0))), (b9, .inl (a9, 1100, .inl (fun _ => 0))), (b10, .inl (a10, 1100, .inl (fun _ => 0))), (b11, .inl (a11, 10, .inl (fun _ => 0)))] H := hP
  have hD : va_D A [(o, .inr (0, [.ref b0, .ref b1, .ref b2, .ref b3, .ref b4, .ref b5, .ref b6, .ref b7, .ref b8, .ref b9, .ref b10, .ref b11, .null, .null, .null, .int 0, .int 0, .int 0])), (b0, .inl (a0, 60, .inl (fun _ => 0))), (b1, .inl (a1, 60, .inl (fun _ => 0))), (b2, .inl (a2, 60, .inl (fun _ => 0))), (b3, .inl (a3, 60, .inl (fun _ => 0))), (b4, .inl (a4, 60, .inl (fun _ => 0))), (b5, .inl (a5, 60, .inl (fun _ => 0))), (b6, .inl (a6, 10, .inl (fun _ => 0))), (b7, .inl (a7, 10, .inl (fun _ => 0))), (b8, .inl (a8, 60, .inl (fun _ => 0))), (b9, .inl (a9, 1100, .inl (fun _ => 0))), (b10, .inl (a10, 1100, .inl (fun _ => 0))), (b11, .inl (a11, 10, .inl (fun _ => 0)))] := hD
  refine lv_aload_n hx hb dX0_init_102 rfl (lv_at hl 0 rfl) ?_
  refine lv_bipush (v := 60) hx hb dX0_init_103 (by decide) ?_
  refine va_newa (atype := .int) (a0 := (60, .inl (fun _ => 0))) hx hb (hts _ q94) (ty := .int) rfl hK hP hD hS hA (fun _ => rfl) (by decide) (by decide) (by decide) (Nat.le_of_ble_eq_true rfl) (Nat.le_of_ble_eq_true rfl) dX0_init_105 (fun b12 a12 H hK hP hD hS => ?_)
  refine W.widen (k := 13) (n := 2710) (Nat.le_of_ble_eq_true rfl) (Nat.le_of_ble_eq_true rfl) ?_
  have hK : va_K D vwCl [(a0, .int), (a1, .int), (a2, .int), (a3, .int), (a4, .boolean), (a5, .boolean), (a6, .int), (a7, .int), (a8, .int), (a9, .int), (a10, .int), (a11, .int), (a12, .int)] s := hK
  refine va_putF (D := D) (ci := 0) (v := .ref b12) (ty := .array .int) (C := RX0) (T := TX0) (N := 18) hx hb hts in_X0 tyX0 tyX0_ok nmX0 hown hK hP hD hS 0 rfl rfl 12 (by decide) (hts _ q51) (fun _ h9 => h9) rfl hin rfl (by decide +kernel) rfl rfl (Nat.le_of_ble_eq_true rfl) dX0_init_107 (fun H locs hP hD hS => ?_)
  have hP : va_P D vwCl [(o, .inr (0, [.ref b0, .ref b1, .ref b2, .ref b3, .ref b4, .ref b5, .ref b6, .ref b7, .ref b8, .ref b9, .ref b10, .ref b11, .ref b12, .null, .null, .int 0, .int 0, .int 0])), (b0, .inl (a0, 60, .inl (fun _ => 0))), (b1, .inl (a1, 60, .inl (fun _ => 0))), (b2, .inl (a2, 60, .inl (fun _ => 0))), (b3, .inl (a3, 60, .inl (fun _ => 0))), (b4, .inl (a4, 60, .inl (fun _ => 0))), (b5, .inl (a5, 60, .inl (fun _ => 0))), (b6, .inl (a6, 10, .inl (fun _ => 0))), (b7, .inl (a7, 10, .inl (fun _ => 0))), (b8, .inl (a8, 60, .inl (fun _ => 0))), (b9, .inl (a9, 1100, .inl (fun _ => 0))), (b10, .inl (a10, 1100, .inl (fun _ => 0))), (b11, .inl (a11, 10, .inl (fun _ => 0))), (b12, .inl (a12, 60, .inl (fun _ => 0)))] H := hP
  have hD : va_D A [(o, .inr (0, [.ref b0, .ref b1, .ref b2, .ref b3, .ref b4, .ref b5, .ref b6, .ref b7, .ref b8, .ref b9, .ref b10, .ref b11, .ref b12, .null, .null, .int 0, .int 0, .int 0])), (b0, .inl (a0, 60, .inl (fun _ => 0))), (b1, .inl (a1, 60, .inl (fun _ => 0))), (b2, .inl (a2, 60, .inl (fun _ => 0))), (b3, .inl (a3, 60, .inl (fun _ => 0))), (b4, .inl (a4, 60, .inl (fun _ => 0))), (b5, .inl (a5, 60, .inl (fun _ => 0))), (b6, .inl (a6, 10, .inl (fun _ => 0))), (b7, .inl (a7, 10, .inl (fun _ => 0))), (b8, .inl (a8, 60, .inl (fun _ => 0))), (b9, .inl (a9, 1100, .inl (fun _ => 0))), (b10, .inl (a10, 1100, .inl (fun _ => 0))), (b11, .inl (a11, 10, .inl (fun _ => 0))), (b12, .inl (a12, 60, .inl (fun _ => 0)))] := hD
  refine lv_aload_n hx hb dX0_init_110 rfl (lv_at hl 0 rfl) ?_
  refine lv_sipush (v := 130) hx hb dX0_init_111 (by decide) ?_
  refine va_newa (atype := .int) (a0 := (130, .inl (fun _ => 0))) hx hb (hts _ q94) (ty := .int) rfl hK hP hD hS hA (fun _ => rfl) (by decide) (by decide) (by decide) (Nat.le_of_ble_eq_true rfl) (Nat.le_of_ble_eq_true rfl) dX0_init_114 (fun b13 a13 H hK hP hD hS => ?_)
  refine W.widen (k := 14) (n := 2840) (Nat.le_of_ble_eq_true rfl) (Nat.le_of_ble_eq_true rfl) ?_
  have hK : va_K D vwCl [(a0, .int), (a1, .int), (a2, .int), (a3, .int), (a4, .boolean), (a5, .boolean), (a6, .int), (a7, .int), (a8, .int), (a9, .int), (a10, .int), (a11, .int), (a12, .int), (a13, .int)] s := hK
  refine va_putF (D := D) (ci := 0) (v := .ref b13) (ty := .array .int) (C := RX0) (T := TX0) (N := 18) hx hb hts in_X0 tyX0 tyX0_ok nmX0 hown hK hP hD hS 0 rfl rfl 13 (by decide) (hts _ q52) (fun _ h9 => h9) rfl hin rfl (by decide +kernel) rfl rfl (Nat.le_of_ble_eq_true rfl) dX0_init_116 (fun H locs hP hD hS => ?_)
  have hP : va_P D vwCl [(o, .inr (0, [.ref b0, .ref b1, .ref b2, .ref b3, .ref b4, .ref b5, .ref b6, .ref b7, .ref b8, .ref b9, .ref b10, .ref b11, .ref b12, .ref b13, .null, .int 0, .int 0, .int 0])), (b0, .inl (a0, 60, .inl (fun _ => 0))), (b1, .inl (a1, 60, .inl (fun _ => 0))), (b2, .inl (a2, 60, .inl (fun _ => 0))), (b3, .inl (a3, 60, .inl (fun _ => 0))), (b4, .inl (a4, 60, .inl (fun _ => 0))), (b5, .inl (a5, 60, .inl (fun _ => 0))), (b6, .inl (a6, 10, .inl (fun _ => 0))), (b7, .inl (a7, 10, .inl (fun _ => 0))), (b8, .inl (a8, 60, .inl (fun _ => 0))), (b9, .inl (a9, 1100, .inl (fun _ => 0))), (b10, .inl (a10, 1100, .inl (fun _ => 0))), (b11, .inl (a11, 10, .inl (fun _ => 0))), (b12, .inl (a12, 60, .inl (fun _ => 0))), (b13, .inl (a13, 130, .inl (fun _ => 0)))] H := hP
  have hD : va_D A [(o, .inr (0, [.ref b0, .ref b1, .ref b2, .ref b3, .ref b4, .ref b5, .ref b6, .ref b7, .ref b8, .ref b9, .ref b10, .ref b11, .ref b12, .ref b13, .null, .int 0, .int 0, .int 0])), (b0, .inl (a0, 60, .inl (fun _ => 0))), (b1, .inl (a1, 60, .inl (fun _ => 0))), (b2, .inl (a2, 60, .inl (fun _ => 0))), (b3, .inl (a3, 60, .inl (fun _ => 0))), (b4, .inl (a4, 60, .inl (fun _ => 0))), (b5, .inl (a5, 60, .inl (fun _ => 0))), (b6, .inl (a6, 10, .inl (fun _ => 0))), (b7, .inl (a7, 10, .inl (fun _ => 0))), (b8, .inl (a8, 60, .inl (fun _ => 0))), (b9, .inl (a9, 1100, .inl (fun _ => 0))), (b10, .inl (a10, 1100, .inl (fun _ => 0))), (b11, .inl (a11, 10, .inl (fun _ => 0))), (b12, .inl (a12, 60, .inl (fun _ => 0))), (b13, .inl (a13, 130, .inl (fun _ => 0)))] := hD
  refine lv_aload_n hx hb dX0_init_119 rfl (lv_at hl 0 rfl) ?_
  refine lv_sipush (v := 130) hx hb dX0_init_120 (by decide) ?_
  refine va_newa (atype := .int) (a0 := (130, .inl (fun _ => 0))) hx hb (hts _ q94) (ty := .int) rfl hK hP hD hS hA (fun _ => rfl) (by decide) (by decide) (by decide) (Nat.le_of_ble_eq_true rfl) (Nat.le_of_ble_eq_true rfl) dX0_init_123 (fun b14 a14 H hK hP hD hS => ?_)
  refine W.widen (k := 15) (n := 2970) (Nat.le_of_ble_eq_true rfl) (Nat.le_of_ble_eq_true rfl) ?_
  have hK : va_K D vwCl [(a0, .int), (a1, .int), (a2, .int), (a3, .int), (a4, .boolean), (a5, .boolean), (a6, .int), (a7, .int), (a8, .int), (a9, .int), (a10, .int), (a11, .int), (a12, .int), (a13, .int), (a14, .int)] s := hK
  refine va_putF (D := D) (ci := 0) (v := .ref b14) (ty := .array .int) (C := RX0) (T := TX0) (N := 18) hx hb hts in_X0 tyX0 tyX0_ok nmX0 hown hK hP hD hS 0 rfl rfl 14 (by decide) (hts _ q53) (fun _ h9 => h9) rfl hin rfl (by decide +kernel) rfl rfl (Nat.le_of_ble_eq_true rfl) dX0_init_125 (fun H locs hP hD hS => ?_)
  have hP : va_P D vwCl [(o, .inr (0, [.ref b0, .ref b1, .ref b2, .ref b3, .ref b4, .ref b5, .ref b6, .ref b7, .ref b8, .ref b9, .ref b10, .ref b11, .ref b12, .ref b13, .ref b14, .int 0, .int 0, .int 0])), (b0, .inl (a0, 60, .inl (fun _ => 0))), (b1, .inl (a1, 60, .inl (fun _ => 0))), (b2, .inl (a2, 60, .inl (fun _ => 0))), (b3, .inl (a3, 60, .inl (fun _ => 0))), (b4, .inl (a4, 60, .inl (fun _ => 0))), (b5, .inl (a5, 60, .inl (fun _ => 0))), (b6, .inl (a6, 10, .inl (fun _ => 0))), (b7, .inl (a7, 10, .inl (fun _ => 0))), (b8, .inl (a8, 60, .inl (fun _ => 0))), (b9, .inl (a9, 1100, .inl (fun _ => 0))), (b10, .inl (a10, 1100, .inl (fun _ => 0))), (b11, .inl (a11, 10, .inl (fun _ => 0))), (b12, .inl (a12, 60, .inl (fun _ => 0))), (b13, .inl (a13, 130, .inl (fun _ => 0))), (b14, .inl (a14, 130, .inl (fun _ => 0)))] H := hP
  have hD : va_D A [(o, .inr (0, [.ref b0, .ref b1, .ref b2, .ref b3, .ref b4, .ref b5, .ref b6, .ref b7, .ref b8, .ref b9, .ref b10, .ref b11, .ref b12, .ref b13, .ref b14, .int 0, .int 0, .int 0])), (b0, .inl (a0, 60, .inl (fun _ => 0))), (b1, .inl (a1, 60, .inl (fun _ => 0))), (b2, .inl (a2, 60, .inl (fun _ => 0))), (b3, .inl (a3, 60, .inl (fun _ => 0))), (b4, .inl (a4, 60, .inl (fun _ => 0))), (b5, .inl (a5, 60, .inl (fun _ => 0))), (b6, .inl (a6, 10, .inl (fun _ => 0))), (b7, .inl (a7, 10, .inl (fun _ => 0))), (b8, .inl (a8, 60, .inl (fun _ => 0))), (b9, .inl (a9, 1100, .inl (fun _ => 0))), (b10, .inl (a10, 1100, .inl (fun _ => 0))), (b11, .inl (a11, 10, .inl (fun _ => 0))), (b12, .inl (a12, 60, .inl (fun _ => 0))), (b13, .inl (a13, 130, .inl (fun _ => 0))), (b14, .inl (a14, 130, .inl (fun _ => 0)))] := hD
  refine lv_aload_n hx hb dX0_init_128 rfl (lv_at hl 0 rfl) ?_
  obtain ⟨q, hq⟩ : ∃ q : Nat → Nat, q = fun k => ([b0, b1, b2, b3, b4, b5, b6, b7, b8, b9, b10, b11, b12, b13, b14, 0, 0, 0] : List Nat).getD k 0 := ⟨_, rfl⟩
  obtain ⟨dA, hdA⟩ : ∃ dA : Nat → ClassId, dA = fun k => ([a0, a1, a2, a3, a4, a5, a6, a7, a8, a9, a10, a11, a12, a13, a14, 0, 0, 0] : List ClassId).getD k 0 := ⟨_, rfl⟩
  have Y : gP D (wX0 dA o q) A s.heap (fun _ _ => 0) H locs := by rw [hq, hdA]; exact ⟨hP, hD, hS⟩
  have hK : va_K D vwCl (tX0 dA) s := by rw [hdA]; exact hK
  refine gCallV (ci := 0) (As := []) (rest := []) ⟨hx, hb, hml, hown, hts, hK, hr, hlocks⟩ (wX0_g dA o q) Y hA (c0_init2 l D dA o q (fun _ _ => 0)) (cwV 0 hts (lw_V q35 q36 q37 q25 q38) rfl rfl rfl (by decide +kernel) ⟨Nat.le_of_ble_eq_true rfl, Nat.le_of_ble_eq_true rfl⟩) rfl rfl rfl rfl hl.1 rfl (Nat.le_of_ble_eq_true rfl) dX0_init_129 ⟨Nat.le_of_ble_eq_true rfl, Nat.le_of_ble_eq_true rfl⟩ (fun σ1 H locs hp Y => ?_)
  exact W.vret hx hb hr (fun t ht hW => ⟨⟨(dA, q, σ1), rfl, hp, by rw [ht]; exact Y.1, va_K.moved hW.alike hK, Y.2.1⟩, Y.2.2.F ht⟩) Y.2.2.2.2 dX0_init_132
end
section
theorem Am_upd {α σ : CS} (h : Am α σ) (k : Nat) (f : Nat → Int32) : Am (va_up α k f) (va_up σ k f) := by
  intro j hj
  by_cases e : j = k
  · rw [e, up_s, up_s]
  · rw [up_n e, up_n e]; exact h j hj
theorem Am_alone {α σ : CS} (h : Am α σ) (c : Int32) : Am (alone c α) (alone c σ) := by
  unfold alone
  rw [h 1 (by decide), h 2 (by decide), h 3 (by decide)]
  exact Am_upd (Am_upd (Am_upd h 1 _) 2 _) 3 _
theorem Am_letgo {α σ : CS} (h : Am α σ) (c : Int32) : Am (letgo c α) (letgo c σ) := by
  unfold letgo
  rw [h 4 (by decide), h 5 (by decide), h 6 (by decide)]
  exact Am_upd (Am_upd (Am_upd h 4 _) 5 _) 6 _
theorem Am_top {α σ : CS} (h : Am α σ) (k : Nat) (r : Int32) : Am (va_up α 7 (upd (α 7) k r)) (va_up σ 7 (upd (σ 7) k r)) := by
  rw [h 7 (by decide)]
  exact Am_upd h 7 _
theorem Am_sc {α σ σ' : CS} (h : Am α σ) (hE : Ex [9, 10, 11, 12] σ σ') : Am α σ' := by
  intro j hj
  rw [hE j (by simp only [List.mem_cons, List.not_mem_nil, or_false]; omega)]
  exact h j hj
theorem Am_up {α α' σ σ' : CS} (h : Am α σ) (hE : Ex [1, 2, 3, 10] σ σ') (hα : ∀ k, k ≠ 1 → k ≠ 2 → k ≠ 3 → α' k = α k) (e1 : σ' 1 = α' 1) (e2 : σ' 2 = α' 2) (e3 : σ' 3 = α' 3) : Am α' σ' := by
  intro j hj
  by_cases h1 : j = 1
  · rw [h1]; exact e1
  by_cases h2 : j = 2
  · rw [h2]; exact e2
  by_cases h3 : j = 3
  · rw [h3]; exact e3
  rw [hE j (by simp only [List.mem_cons, List.not_mem_nil, or_false]; omega), hα j h1 h2 h3]
  exact h j hj
theorem le_pred {h : Int32} {n : Nat} (hn : n ≤ 10) : h ≤ nI n - 1 ↔ h < nI n := by
  rw [Int32.le_iff_toInt_le, Int32.lt_iff_toInt_lt, nI_toInt (by omega)]
  have := pk_sub_toInt (a := n) (b := 1) (by omega) (by omega)
  rw [show nI n - 1 = nI n - nI 1 from rfl, this]
  omega
theorem vp59 {x : Int32} : (0 ≤ x ∧ x ≤ 59) ↔ vp_in x 60 := by
  rw [vp_in_iff, Int32.le_iff_toInt_le, Int32.le_iff_toInt_le]
  have e0 : (0 : Int32).toInt = 0 := by decide
  have e1 : (59 : Int32).toInt = 59 := by decide
  omega
/-- the search over all heaps from h on -/
def Ho (α : CS) (cell : Int32) : Nat → Nat → Int32 → Int32 → Prop
  | 0, _, f, r => r = f
  | n + 1, h, f, r => ∃ (v : Int32) (k : Nat), Lk α cell k (if α 7 h < 0 then [] else [α 7 h]) 0 v ∧ Ho α cell n (h + 1) (if v ≤ 0 then f else nI h) r
def nhp1 (α : CS) : CS := va_up (va_up α 7 (upd (α 7) (α 8 0).toNatClampNeg (-1))) 8 (fun _ => α 8 0 + 1)
theorem Ex_sub {ks js : List Nat} {σ σ' : CS} (h : Ex ks σ σ') (hk : ∀ k ∈ ks, k ∈ js) : Ex js σ σ' := fun j hj => h j (fun q => hj (hk j q))
theorem add1_sub1 (x : Int32) : x + 1 - 1 = x := by
  have h : x + 1 - 1 = x + (1 - 1) := by rw [Int32.sub_eq_add_neg, Int32.add_assoc, ← Int32.sub_eq_add_neg]
  rw [h, show (1 : Int32) - 1 = 0 from by decide, Int32.add_zero]
end
section
set_option maxHeartbeats 4000000 in
set_option maxRecDepth 100000 in
/-- LeftistHeapsModel.isIn -/
theorem c1_isIn (l : Launch) (v a b : Int32) : Met l yX1_isIn (ws_ yX1_isIn cX1_isIn 3 (some .boolean)) { frames := 0, cells := 0, slots := 0, locals := 0 } (va_Pc [.int v, .int a, .int b] (fun _ => True)) (va_Qi (fun (r : Int32) (_ : Unit) => (r = 1 ∧ a ≤ v ∧ v ≤ b) ∨ (r = 0 ∧ ¬ (a ≤ v ∧ v ≤ b))) (fun _ _ => True) (fun _ => False)) 0 0 (fun _ => False) := by
  refine Met.ofW (cc := cX1_isIn) (maxL := 3) (ret := (some .boolean)) (by decide) rfl ?_
  intro p e s m args below meth c s₁ B hml hv
  obtain ⟨rfl, -⟩ := hv
  have hx := B.exec
  have hb := B.bytes
  have hr := B.returns
  have hlocks := B.notSynchronized
  have hl := lv_entry ([.int v, .int a, .int b]) (n := 3) (Nat.le_of_ble_eq_true rfl)
  rw [lg_entry_eq]
  generalize (lg_sl ([.int v, .int a, .int b]) ++ List.replicate (3 - (lg_sl ([.int v, .int a, .int b])).length) Slot.unset).toArray = ls at hl ⊢
  have hl : lv_has ls 3 [(0, .int v), (1, .int a), (2, .int b)] := hl
  refine lv_iload_n hx hb dX1_isIn_0 rfl (lv_at hl 0 rfl) ?_
  refine lv_iload_n hx hb dX1_isIn_1 rfl (lv_at hl 1 rfl) ?_
  refine lv_icmp_lt (tgt := 14) hx hb dX1_isIn_2 (by decide) (fun c2 => ?_) (fun c2 => ?_)
  · skip
    refine lv_iconst (v := 0) hx hb dX1_isIn_14 (by decide) ?_
    exact W.zret (v := 0) hx hb hr rfl (fun t ht hW => ⟨⟨0, (), rfl, Or.inr ⟨rfl, fun h => not_lt32.mpr h.1 c2⟩, trivial⟩, by rw [ht]; exact Nat.le_refl _, fun q _ _ => by rw [ht]⟩) (fun q h => by cases h) dX1_isIn_15
  · skip
    refine lv_iload_n hx hb dX1_isIn_5 rfl (lv_at hl 0 rfl) ?_
    refine lv_iload_n hx hb dX1_isIn_6 rfl (lv_at hl 2 rfl) ?_
    refine lv_icmp_gt (tgt := 14) hx hb dX1_isIn_7 (by decide) (fun c7 => ?_) (fun c7 => ?_)
    · skip
      refine lv_iconst (v := 0) hx hb dX1_isIn_14 (by decide) ?_
      exact W.zret (v := 0) hx hb hr rfl (fun t ht hW => ⟨⟨0, (), rfl, Or.inr ⟨rfl, fun h => not_lt32.mpr h.2 c7⟩, trivial⟩, by rw [ht]; exact Nat.le_refl _, fun q _ _ => by rw [ht]⟩) (fun q h => by cases h) dX1_isIn_15
    · skip
      refine lv_iconst (v := 1) hx hb dX1_isIn_10 (by decide) ?_
      refine lv_goto (tgt := 15) hx hb dX1_isIn_11 (by decide) ?_
      exact W.zret (v := 1) hx hb hr rfl (fun t ht hW => ⟨⟨1, (), rfl, Or.inl ⟨rfl, not_lt32.mp c2, not_lt32.mp c7⟩, trivial⟩, by rw [ht]; exact Nat.le_refl _, fun q _ _ => by rw [ht]⟩) (fun q h => by cases h) dX1_isIn_15
set_option maxHeartbeats 4000000 in
set_option maxRecDepth 100000 in
theorem c1_isHeap (l : Launch) (D : va_G) (dA : Nat → ClassId) (o : Nat) (q : Nat → Nat) (σ : CS) (α : CS) (h : Int32) (nh : Nat) (ham : Am α σ) (e8 : α 8 0 = nI nh) (hnh : nh ≤ 10) : gMi l D (wX1 dA o q) (tX1 dA) yX1_isHeap cX1_isHeap 2 (some .boolean) { frames := 1, cells := 0, slots := 0, locals := 22 } [.ref o, .int h] σ (fun r σ' => σ' = σ ∧ ((r = 1 ∧ isH α h) ∨ (r = 0 ∧ ¬ isH α h))) := by
  intro sz
  refine gEnter (own := RX1) (lv := [(0, .ref o), (1, .int h)]) (wX1_g dA o q) (by decide) rfl (Nat.le_of_ble_eq_true rfl) rfl (fun p e s m below meth c ls S hA Y hl => ?_)
  have hx := S.1
  have hb := S.2.1
  refine lv_iload_n hx hb dX1_isHeap_0 rfl (lv_at hl 1 rfl) ?_
  refine lv_iconst (v := 0) hx hb dX1_isHeap_1 (by decide) ?_
  refine lv_aload_n hx hb dX1_isHeap_2 rfl (lv_at hl 0 rfl) ?_
  refine x1_g8 S Y dX1_isHeap_3 ?_
  refine lv_iconst (v := 1) hx hb dX1_isHeap_6 (by decide) ?_
  refine lv_isub hx hb dX1_isHeap_7 ?_
  refine gCallS (As := [.int h, .int 0, .int ((σ 8 0) - 1)]) (rest := []) S Y (c1_isIn l h 0 ((σ 8 0) - 1)) (va_cwS 3 S.2.2.2.2.1 (lw_S q253 q254 q26 q255) rfl rfl rfl (by decide +kernel) ⟨Nat.le_of_ble_eq_true rfl, Nat.le_of_ble_eq_true rfl⟩) rfl hl.1 rfl (Nat.le_of_ble_eq_true rfl) dX1_isHeap_8 ⟨Nat.le_refl _, Nat.le_refl _⟩ (fun r1 H locs h_r1 Y => ?_)
  have e9 : σ 8 0 = nI nh := by rw [ham 8 (by decide)]; exact e8
  have hv : (r1 = 1 ∧ isH α h) ∨ (r1 = 0 ∧ ¬ isH α h) := by rw [e9] at h_r1; unfold isH; rw [e8]; rcases h_r1 with ⟨a, b, c⟩ | ⟨a, b⟩; exact Or.inl ⟨a, b, (le_pred hnh).mp c⟩; exact Or.inr ⟨a, fun q => b ⟨q.1, (le_pred hnh).mpr q.2⟩⟩
  exact gIret S Y (by rcases hv with ⟨e9, -⟩ | ⟨e9, -⟩ <;> (rw [e9]; rfl)) (⟨rfl, hv⟩) dX1_isHeap_11
set_option maxHeartbeats 4000000 in
set_option maxRecDepth 100000 in
/-- LeftistHeapsModel.isBefore -/
theorem c1_isBefore (l : Launch) (D : va_G) (dA : Nat → ClassId) (o : Nat) (q : Nat → Nat) (σ : CS) (a b : Int32) (h_a : vp_in a 60) (h_b : vp_in b 60) : gMi l D (wX1 dA o q) (tX1 dA) yX1_isBefore cX1_isBefore 3 (some .boolean) { frames := 0, cells := 0, slots := 0, locals := 0 } [.ref o, .int a, .int b] σ (fun r σ' => σ' = σ ∧ ((r = 1 ∧ bf (σ 0) a b) ∨ (r = 0 ∧ ¬ bf (σ 0) a b))) := by
  intro sz
  refine gEnter (own := RX1) (lv := [(0, .ref o), (1, .int a), (2, .int b)]) (wX1_g dA o q) (by decide) rfl (Nat.le_of_ble_eq_true rfl) rfl (fun p e s m below meth c ls S hA Y hl => ?_)
  have hx := S.1
  have hb := S.2.1
  refine lv_aload_n hx hb dX1_isBefore_0 rfl (lv_at hl 0 rfl) ?_
  refine x1_g0 S Y dX1_isBefore_1 ?_
  refine lv_iload_n hx hb dX1_isBefore_4 rfl (lv_at hl 1 rfl) ?_
  refine x1_l0 S Y h_a dX1_isBefore_5 ?_
  refine lv_aload_n hx hb dX1_isBefore_6 rfl (lv_at hl 0 rfl) ?_
  refine x1_g0 S Y dX1_isBefore_7 ?_
  refine lv_iload_n hx hb dX1_isBefore_10 rfl (lv_at hl 2 rfl) ?_
  refine x1_l0 S Y h_b dX1_isBefore_11 ?_
  refine lv_icmp_eq (tgt := 38) hx hb dX1_isBefore_12 (by decide) (fun c12 => ?_) (fun c12 => ?_)
  · skip
    refine lv_iload_n hx hb dX1_isBefore_38 rfl (lv_at hl 1 rfl) ?_
    refine lv_iload_n hx hb dX1_isBefore_39 rfl (lv_at hl 2 rfl) ?_
    refine lv_icmp_ge (tgt := 47) hx hb dX1_isBefore_40 (by decide) (fun c40 => ?_) (fun c40 => ?_)
    · skip
      refine lv_iconst (v := 0) hx hb dX1_isBefore_47 (by decide) ?_
      exact gIret S Y rfl (⟨rfl, Or.inr ⟨rfl, fun h => h.elim (fun h => absurd (c12 ▸ h) (not_lt32.mpr (by rw [Int32.le_iff_toInt_le]; omega))) (fun h => not_lt32.mpr c40 h.2)⟩⟩) dX1_isBefore_48
    · skip
      refine lv_iconst (v := 1) hx hb dX1_isBefore_43 (by decide) ?_
      refine lv_goto (tgt := 48) hx hb dX1_isBefore_44 (by decide) ?_
      exact gIret S Y rfl (⟨rfl, Or.inl ⟨rfl, Or.inr ⟨c12, not_le32.mp c40⟩⟩⟩) dX1_isBefore_48
  · skip
    refine lv_aload_n hx hb dX1_isBefore_15 rfl (lv_at hl 0 rfl) ?_
    refine x1_g0 S Y dX1_isBefore_16 ?_
    refine lv_iload_n hx hb dX1_isBefore_19 rfl (lv_at hl 1 rfl) ?_
    refine x1_l0 S Y h_a dX1_isBefore_20 ?_
    refine lv_aload_n hx hb dX1_isBefore_21 rfl (lv_at hl 0 rfl) ?_
    refine x1_g0 S Y dX1_isBefore_22 ?_
    refine lv_iload_n hx hb dX1_isBefore_25 rfl (lv_at hl 2 rfl) ?_
    refine x1_l0 S Y h_b dX1_isBefore_26 ?_
    refine lv_icmp_ge (tgt := 34) hx hb dX1_isBefore_27 (by decide) (fun c27 => ?_) (fun c27 => ?_)
    · skip
      refine lv_iconst (v := 0) hx hb dX1_isBefore_34 (by decide) ?_
      refine lv_goto (tgt := 48) hx hb dX1_isBefore_35 (by decide) ?_
      exact gIret S Y rfl (⟨rfl, Or.inr ⟨rfl, fun h => h.elim (fun h => not_lt32.mpr c27 h) (fun h => c12 h.1)⟩⟩) dX1_isBefore_48
    · skip
      refine lv_iconst (v := 1) hx hb dX1_isBefore_30 (by decide) ?_
      refine lv_goto (tgt := 48) hx hb dX1_isBefore_31 (by decide) ?_
      exact gIret S Y rfl (⟨rfl, Or.inl ⟨rfl, Or.inl (not_le32.mp c27)⟩⟩) dX1_isBefore_48
set_option maxHeartbeats 4000000 in
set_option maxRecDepth 100000 in
theorem c1_rankOf (l : Launch) (D : va_G) (dA : Nat → ClassId) (o : Nat) (q : Nat → Nat) (σ : CS) (x : Int32) (h_x : Pt x) : gMi l D (wX1 dA o q) (tX1 dA) yX1_rankOf cX1_rankOf 2 (some .int) { frames := 0, cells := 0, slots := 0, locals := 0 } [.ref o, .int x] σ (fun r σ' => σ' = σ ∧ r = rk (σ 3) x) := by
  intro sz
  refine gEnter (own := RX1) (lv := [(0, .ref o), (1, .int x)]) (wX1_g dA o q) (by decide) rfl (Nat.le_of_ble_eq_true rfl) rfl (fun p e s m below meth c ls S hA Y hl => ?_)
  have hx := S.1
  have hb := S.2.1
  refine lv_iload_n hx hb dX1_rankOf_0 rfl (lv_at hl 1 rfl) ?_
  refine lv_if_ge (tgt := 8) hx hb dX1_rankOf_1 (by decide) (fun c1 => ?_) (fun c1 => ?_)
  · skip
    refine lv_aload_n hx hb dX1_rankOf_8 rfl (lv_at hl 0 rfl) ?_
    refine x1_g3 S Y dX1_rankOf_9 ?_
    refine lv_iload_n hx hb dX1_rankOf_12 rfl (lv_at hl 1 rfl) ?_
    refine x1_l3 S Y (Pt_in h_x (ge0.mp c1)) dX1_rankOf_13 ?_
    exact gIret S Y rfl (⟨rfl, by rw [rk, if_neg (ge0.mp c1)]⟩) dX1_rankOf_14
  · skip
    refine lv_iconst (v := 0) hx hb dX1_rankOf_4 (by decide) ?_
    refine lv_goto (tgt := 14) hx hb dX1_rankOf_5 (by decide) ?_
    exact gIret S Y rfl (⟨rfl, by rw [rk, if_pos (not_le32.mp c1)]⟩) dX1_rankOf_14
set_option maxHeartbeats 4000000 in
set_option maxRecDepth 100000 in
theorem c1_letGo (l : Launch) (D : va_G) (dA : Nat → ClassId) (o : Nat) (q : Nat → Nat) (σ : CS) (x : Int32) (h_x : vp_in x 60) (h_f : vp_in (σ 6 0) 60) : gMv l D (wX1 dA o q) (tX1 dA) yX1_letGo cX1_letGo 2 none { frames := 0, cells := 0, slots := 0, locals := 0 } [.ref o, .int x] σ (fun σ' => σ' = letgo x σ) := by
  intro sz
  refine gEnter (own := RX1) (lv := [(0, .ref o), (1, .int x)]) (wX1_g dA o q) (by decide) rfl (Nat.le_of_ble_eq_true rfl) rfl (fun p e s m below meth c ls S hA Y hl => ?_)
  have hx := S.1
  have hb := S.2.1
  refine lv_aload_n hx hb dX1_letGo_0 rfl (lv_at hl 0 rfl) ?_
  refine x1_g4 S Y dX1_letGo_1 ?_
  refine lv_iload_n hx hb dX1_letGo_4 rfl (lv_at hl 1 rfl) ?_
  refine lv_iconst (v := 0) hx hb dX1_letGo_5 (by decide) ?_
  refine x1_s4 S Y h_x dX1_letGo_6 (fun t1 H locs e_t1 Y => ?_)
  refine lv_aload_n hx hb dX1_letGo_7 rfl (lv_at hl 0 rfl) ?_
  refine x1_g5 S Y dX1_letGo_8 ?_
  refine lv_aload_n hx hb dX1_letGo_11 rfl (lv_at hl 0 rfl) ?_
  refine x1_g6 S Y dX1_letGo_12 ?_
  refine lv_iload_n hx hb dX1_letGo_15 rfl (lv_at hl 1 rfl) ?_
  refine x1_s5 S Y (by rw [e_t1]; exact h_f) dX1_letGo_16 (fun t2 H locs e_t2 Y => ?_)
  refine lv_aload_n hx hb dX1_letGo_17 rfl (lv_at hl 0 rfl) ?_
  refine lv_dup hx hb dX1_letGo_18 rfl ?_
  refine x1_g6 S Y dX1_letGo_19 ?_
  refine lv_iconst (v := 1) hx hb dX1_letGo_22 (by decide) ?_
  refine lv_iadd hx hb dX1_letGo_23 ?_
  refine x1_p6 S Y dX1_letGo_24 (fun t3 H locs e_t3 Y => ?_)
  exact gVret S Y (by rw [e_t3, e_t2, e_t1]; rfl) dX1_letGo_27
set_option maxHeartbeats 4000000 in
set_option maxRecDepth 100000 in
theorem c1_alone (l : Launch) (D : va_G) (dA : Nat → ClassId) (o : Nat) (q : Nat → Nat) (σ : CS) (x : Int32) (h_x : vp_in x 60) : gMv l D (wX1 dA o q) (tX1 dA) yX1_alone cX1_alone 2 none { frames := 0, cells := 0, slots := 0, locals := 0 } [.ref o, .int x] σ (fun σ' => σ' = alone x σ) := by
  intro sz
  refine gEnter (own := RX1) (lv := [(0, .ref o), (1, .int x)]) (wX1_g dA o q) (by decide) rfl (Nat.le_of_ble_eq_true rfl) rfl (fun p e s m below meth c ls S hA Y hl => ?_)
  have hx := S.1
  have hb := S.2.1
  refine lv_aload_n hx hb dX1_alone_0 rfl (lv_at hl 0 rfl) ?_
  refine x1_g1 S Y dX1_alone_1 ?_
  refine lv_iload_n hx hb dX1_alone_4 rfl (lv_at hl 1 rfl) ?_
  refine lv_iconst (v := (-1)) hx hb dX1_alone_5 (by decide) ?_
  refine x1_s1 S Y h_x dX1_alone_6 (fun t1 H locs e_t1 Y => ?_)
  refine lv_aload_n hx hb dX1_alone_7 rfl (lv_at hl 0 rfl) ?_
  refine x1_g2 S Y dX1_alone_8 ?_
  refine lv_iload_n hx hb dX1_alone_11 rfl (lv_at hl 1 rfl) ?_
  refine lv_iconst (v := (-1)) hx hb dX1_alone_12 (by decide) ?_
  refine x1_s2 S Y h_x dX1_alone_13 (fun t2 H locs e_t2 Y => ?_)
  refine lv_aload_n hx hb dX1_alone_14 rfl (lv_at hl 0 rfl) ?_
  refine x1_g3 S Y dX1_alone_15 ?_
  refine lv_iload_n hx hb dX1_alone_18 rfl (lv_at hl 1 rfl) ?_
  refine lv_iconst (v := 1) hx hb dX1_alone_19 (by decide) ?_
  refine x1_s3 S Y h_x dX1_alone_20 (fun t3 H locs e_t3 Y => ?_)
  exact gVret S Y (by rw [e_t3, e_t2, e_t1]; rfl) dX1_alone_21
set_option maxHeartbeats 4000000 in
set_option maxRecDepth 100000 in
theorem c1_cellsFree (l : Launch) (D : va_G) (dA : Nat → ClassId) (o : Nat) (q : Nat → Nat) (σ : CS)  : gMi l D (wX1 dA o q) (tX1 dA) yX1_cellsFree cX1_cellsFree 1 (some .int) { frames := 0, cells := 0, slots := 0, locals := 0 } [.ref o] σ (fun r σ' => σ' = σ ∧ r = σ 6 0) := by
  intro sz
  refine gEnter (own := RX1) (lv := [(0, .ref o)]) (wX1_g dA o q) (by decide) rfl (Nat.le_of_ble_eq_true rfl) rfl (fun p e s m below meth c ls S hA Y hl => ?_)
  have hx := S.1
  have hb := S.2.1
  refine lv_aload_n hx hb dX1_cellsFree_0 rfl (lv_at hl 0 rfl) ?_
  refine x1_g6 S Y dX1_cellsFree_1 ?_
  exact gIret S Y rfl (⟨rfl, rfl⟩) dX1_cellsFree_4
set_option maxHeartbeats 4000000 in
set_option maxRecDepth 100000 in
theorem c1_newHeap (l : Launch) (D : va_G) (dA : Nat → ClassId) (o : Nat) (q : Nat → Nat) (σ : CS) (h_h : σ 8 0 = 10 ∨ vp_in (σ 8 0) 10) : gMi l D (wX1 dA o q) (tX1 dA) yX1_newHeap cX1_newHeap 1 (some .int) { frames := 0, cells := 0, slots := 0, locals := 0 } [.ref o] σ (fun r σ' => (σ 8 0 = 10 ∧ r = -1 ∧ σ' = σ) ∨ (¬ σ 8 0 = 10 ∧ r = σ 8 0 ∧ σ' = nhp1 σ)) := by
  intro sz
  refine gEnter (own := RX1) (lv := [(0, .ref o)]) (wX1_g dA o q) (by decide) rfl (Nat.le_of_ble_eq_true rfl) rfl (fun p e s m below meth c ls S hA Y hl => ?_)
  have hx := S.1
  have hb := S.2.1
  refine lv_aload_n hx hb dX1_newHeap_0 rfl (lv_at hl 0 rfl) ?_
  refine x1_g8 S Y dX1_newHeap_1 ?_
  refine lv_bipush (v := 10) hx hb dX1_newHeap_4 (by decide) ?_
  refine lv_icmp_ne (tgt := 11) hx hb dX1_newHeap_6 (by decide) (fun c6 => ?_) (fun c6 => ?_)
  · skip
    refine lv_aload_n hx hb dX1_newHeap_11 rfl (lv_at hl 0 rfl) ?_
    refine x1_g7 S Y dX1_newHeap_12 ?_
    refine lv_aload_n hx hb dX1_newHeap_15 rfl (lv_at hl 0 rfl) ?_
    refine x1_g8 S Y dX1_newHeap_16 ?_
    refine lv_iconst (v := (-1)) hx hb dX1_newHeap_19 (by decide) ?_
    refine x1_s7 S Y (h_h.resolve_left c6) dX1_newHeap_20 (fun t1 H locs e_t1 Y => ?_)
    refine lv_aload_n hx hb dX1_newHeap_21 rfl (lv_at hl 0 rfl) ?_
    refine lv_dup hx hb dX1_newHeap_22 rfl ?_
    refine x1_g8 S Y dX1_newHeap_23 ?_
    refine lv_iconst (v := 1) hx hb dX1_newHeap_26 (by decide) ?_
    refine lv_iadd hx hb dX1_newHeap_27 ?_
    refine x1_p8 S Y dX1_newHeap_28 (fun t2 H locs e_t2 Y => ?_)
    refine lv_aload_n hx hb dX1_newHeap_31 rfl (lv_at hl 0 rfl) ?_
    refine x1_g8 S Y dX1_newHeap_32 ?_
    refine lv_iconst (v := 1) hx hb dX1_newHeap_35 (by decide) ?_
    refine lv_isub hx hb dX1_newHeap_36 ?_
    exact gIret S Y rfl (Or.inr ⟨c6, by rw [e_t2, e_t1]; exact add1_sub1 _, by rw [e_t2, e_t1]; rfl⟩) dX1_newHeap_37
  · skip
    refine lv_iconst (v := (-1)) hx hb dX1_newHeap_9 (by decide) ?_
    exact gIret S Y rfl (Or.inl ⟨c6, rfl, rfl⟩) dX1_newHeap_10
set_option maxHeartbeats 4000000 in
set_option maxRecDepth 100000 in
/-- LeftistHeapsModel.init: its loop -/
theorem x1_ini {p : Program} {l : Launch} {e : Env} {s : State} {m : MethodId} {args : Array Value} {below : List Frame} {meth : Method} {c : Code} {Q : State → Prop} {D : va_G} {dA : Nat → ClassId} {o : Nat} {q : Nat → Nat} {A : Nat → Prop} {H0 : Heap} {σ0 : CS} (S : gS p s m meth c cX1_init_2 2 args RX1 none D (tX1 dA)) (hA : ∀ q, H0.size ≤ q → A q) (kk : ∀ (σ : CS) (H : Heap) (locs : List Loc) (ls : Array Slot), σ 5 = ipile 60 (σ0 5) → σ 4 = zst 60 (σ0 4) → Ex [4, 5] σ0 σ → gP D (wX1 dA o q) A H0 σ H locs → W p l e { frames := 0, cells := 0, slots := 0, locals := 0 } s m args below meth c H locs 0 0 Q (F0 m 42 ls [])) : ∀ (n k : Nat) (σ : CS) (H : Heap) (locs : List Loc) (ls : Array Slot), k + n = 60 → σ 5 = ipile k (σ0 5) → σ 4 = zst k (σ0 4) → Ex [4, 5] σ0 σ → gP D (wX1 dA o q) A H0 σ H locs → lv_has ls 2 [(0, .ref o), (1, .int (nI k))] → W p l e { frames := 0, cells := 0, slots := 0, locals := 0 } s m args below meth c H locs 0 0 Q (F0 m 13 ls []) := by
  have hx := S.1
  have hb := S.2.1
  intro n
  induction n with
  | zero =>
    intro k σ H locs ls hk e5 e4 hE Y hl
    have hk : k = 60 := hk
    subst hk
    refine lv_iload_n hx hb dX1_init_2_13 rfl (lv_at hl 1 rfl) ?_
    refine lv_bipush (v := 60) hx hb dX1_init_2_14 (by decide) ?_
    refine lv_icmp_ge (tgt := 42) hx hb dX1_init_2_16 (by decide) (fun c16 => ?_) (fun c16 => ?_)
    · skip
      exact kk σ H locs ls e5 e4 hE Y
    · skip
      exact absurd (by decide +kernel : (60 : Int32) ≤ nI 60) c16
  | succ n ih =>
    intro k σ H locs ls hk e5 e4 hE Y hl
    have h_k : vp_in (nI k) 60 := vp_in_nI (by omega) (by decide)
    refine lv_iload_n hx hb dX1_init_2_13 rfl (lv_at hl 1 rfl) ?_
    refine lv_bipush (v := 60) hx hb dX1_init_2_14 (by decide) ?_
    refine lv_icmp_ge (tgt := 42) hx hb dX1_init_2_16 (by decide) (fun c16 => ?_) (fun c16 => ?_)
    · skip
      exact absurd c16 (nI_ge (b := 60) (by omega) (by decide))
    · skip
      refine lv_aload_n hx hb dX1_init_2_19 rfl (lv_at hl 0 rfl) ?_
      refine x1_g5 S Y dX1_init_2_20 ?_
      refine lv_iload_n hx hb dX1_init_2_23 rfl (lv_at hl 1 rfl) ?_
      refine lv_bipush (v := 59) hx hb dX1_init_2_24 (by decide) ?_
      refine lv_iload_n hx hb dX1_init_2_26 rfl (lv_at hl 1 rfl) ?_
      refine lv_isub hx hb dX1_init_2_27 ?_
      refine x1_s5 S Y h_k dX1_init_2_28 (fun t1 H locs e_t1 Y => ?_)
      refine lv_aload_n hx hb dX1_init_2_29 rfl (lv_at hl 0 rfl) ?_
      refine x1_g4 S Y dX1_init_2_30 ?_
      refine lv_iload_n hx hb dX1_init_2_33 rfl (lv_at hl 1 rfl) ?_
      refine lv_iconst (v := 0) hx hb dX1_init_2_34 (by decide) ?_
      refine x1_s4 S Y h_k dX1_init_2_35 (fun t2 H locs e_t2 Y => ?_)
      refine lv_iinc (v := nI (k + 1)) (lv' := [(1, .int (nI (k + 1))), (0, .ref o)]) hx hb dX1_init_2_36 hl (k := 1) rfl (nI_1 _) (by decide) rfl (fun ls hl => ?_)
      refine lv_goto (tgt := 13) hx hb dX1_init_2_39 (by decide) ?_
      exact ih (k + 1) t2 H locs ls (by omega) (by rw [e_t2, e_t1]; show upd (σ 5) (nI k).toNatClampNeg (59 - nI k) = _; rw [nI_clamp (by omega), e5]; exact ipile_s k _) (by rw [e_t2, e_t1]; show upd (σ 4) (nI k).toNatClampNeg 0 = _; rw [nI_clamp (by omega), e4]; exact zst_s k _) (Ex_tr hE (by rw [e_t2, e_t1]; exact Ex_tr (Ex_up (by decide)) (Ex_up (by decide)))) Y (lv_sub hl [1, 0] rfl)
set_option maxHeartbeats 4000000 in
set_option maxRecDepth 100000 in
/-- LeftistHeapsModel.init -/
theorem c1_init2 (l : Launch) (D : va_G) (dA : Nat → ClassId) (o : Nat) (q : Nat → Nat) (σ : CS)  : gMv l D (wX1 dA o q) (tX1 dA) yX1_init_2 cX1_init_2 2 none { frames := 0, cells := 0, slots := 0, locals := 0 } [.ref o] σ (fun σ' => σ' 5 = ipile 60 (σ 5) ∧ σ' 4 = zst 60 (σ 4) ∧ σ' 6 = (fun _ => 60) ∧ σ' 8 = (fun _ => 0) ∧ Ex [4, 5, 6, 8] σ σ') := by
  intro sz
  refine gEnter (own := RX1) (lv := [(0, .ref o)]) (wX1_g dA o q) (by decide) rfl (Nat.le_of_ble_eq_true rfl) rfl (fun p e s m below meth c ls S hA Y hl => ?_)
  have hx := S.1
  have hb := S.2.1
  refine lv_aload_n hx hb dX1_init_2_0 rfl (lv_at hl 0 rfl) ?_
  refine lv_iconst (v := 0) hx hb dX1_init_2_1 (by decide) ?_
  refine x1_p8 S Y dX1_init_2_2 (fun t1 H locs e_t1 Y => ?_)
  refine lv_aload_n hx hb dX1_init_2_5 rfl (lv_at hl 0 rfl) ?_
  refine lv_bipush (v := 60) hx hb dX1_init_2_6 (by decide) ?_
  refine x1_p6 S Y dX1_init_2_8 (fun t2 H locs e_t2 Y => ?_)
  refine lv_iconst (v := 0) hx hb dX1_init_2_11 (by decide) ?_
  refine lv_istore_n (lv' := [(1, .int 0), (0, .ref o)]) hx hb dX1_init_2_12 rfl hl (by decide) rfl (fun ls hl => ?_)
  refine x1_ini (σ0 := t2) S hA ?_ 60 0 t2 _ _ ls rfl (ipile_0 _).symm (zst_0 _).symm (Ex_rf _ _) Y (lv_sub hl [1, 0] rfl)
  intro σ1 H locs ls e5 e4 hE Y
  have q5 : t2 5 = σ 5 := by rw [e_t2, e_t1]; rfl
  have q4 : t2 4 = σ 4 := by rw [e_t2, e_t1]; rfl
  have q6 : t2 6 = fun _ => 60 := by rw [e_t2]; rfl
  have q8 : t2 8 = fun _ => 0 := by rw [e_t2, e_t1]; rfl
  exact gVret S Y (⟨by rw [e5, q5], by rw [e4, q4], by rw [hE 6 (by decide)]; exact q6, by rw [hE 8 (by decide)]; exact q8, Ex_tr (b := t2) (by rw [e_t2, e_t1]; exact Ex_tr (Ex_up (by decide)) (Ex_up (by decide))) (Ex_sub hE (by decide))⟩) dX1_init_2_42
end
section
set_option maxHeartbeats 4000000 in
set_option maxRecDepth 100000 in
/-- LeftistHeapsModel.join, the way down -/
theorem x1_dn {p : Program} {l : Launch} {e : Env} {s : State} {m : MethodId} {args : Array Value} {below : List Frame} {meth : Method} {c : Code} {Q : State → Prop} {D : va_G} {dA : Nat → ClassId} {o : Nat} {q : Nat → Nat} {A : Nat → Prop} {H0 : Heap} {σ0 : CS} {bl : Int32} {F : List Int32} (S : gS p s m meth c cX1_join 10 args RX1 (some .int) D (tX1 dA)) (hA : ∀ q, H0.size ≤ q → A q) (hB2 : Bd (σ0 2)) (hlen : F.length ≤ 60) (kk : ∀ (σ : CS) (a b : Int32) (H : Heap) (locs : List Loc) (ls : Array Slot), Hl (σ 10) F → Ex [10] σ0 σ → bl = (if a < 0 then b else a) → gP D (wX1 dA o q) A H0 σ H locs → lv_has ls 10 [(0, .ref o), (3, .int a), (4, .int b), (5, .int (nI F.length))] → W p l e { frames := 1, cells := 0, slots := 0, locals := 22 } s m args below meth c H locs 0 0 Q (F0 m 69 ls [])) : ∀ (st dn : List Int32) (a b : Int32) (σ : CS) (H : Heap) (locs : List Loc) (ls : Array Slot), dn ++ st = F → Dn (σ0 0) (σ0 2) st a b bl → Hl (σ 10) dn → Pt a → Pt b → Ex [10] σ0 σ → gP D (wX1 dA o q) A H0 σ H locs → lv_has ls 10 [(0, .ref o), (3, .int a), (4, .int b), (5, .int (nI dn.length))] → W p l e { frames := 1, cells := 0, slots := 0, locals := 22 } s m args below meth c H locs 0 0 Q (F0 m 8 ls []) := by
  have hx := S.1
  have hb := S.2.1
  intro st
  induction st with
  | nil =>
    intro dn a b σ H locs ls hF hd h13 h_pa h_pb hE Y hl
    rw [List.append_nil] at hF
    subst hF
    refine lv_iload_n hx hb dX1_join_8 rfl (lv_at hl 1 rfl) ?_
    refine lv_if_lt (tgt := 69) hx hb dX1_join_9 (by decide) (fun c9 => ?_) (fun c9 => ?_)
    · skip
      exact kk σ a b H locs ls h13 hE hd.2 Y hl
    · skip
      refine lv_iload hx hb dX1_join_12 (lv_at hl 2 rfl) ?_
      refine lv_if_lt (tgt := 69) hx hb dX1_join_14 (by decide) (fun c14 => ?_) (fun c14 => ?_)
      · skip
        exact kk σ a b H locs ls h13 hE hd.2 Y hl
      · skip
        exact absurd hd.1 (fun q => q.elim c9 c14)
  | cons x st ih =>
    intro dn a b σ H locs ls hF hd h13 h_pa h_pb hE Y hl
    have hk : dn.length < 60 := by have := congrArg List.length hF; rw [List.length_append, List.length_cons] at this; omega
    have h_n : vp_in (nI dn.length) 64 := vp_in_nI (by omega) (by decide)
    have h0 : σ 0 = σ0 0 := hE 0 (by decide)
    have h2 : σ 2 = σ0 2 := hE 2 (by decide)
    refine lv_iload_n hx hb dX1_join_8 rfl (lv_at hl 1 rfl) ?_
    refine lv_if_lt (tgt := 69) hx hb dX1_join_9 (by decide) (fun c9 => ?_) (fun c9 => ?_)
    · skip
      exact absurd c9 hd.1
    · skip
      refine lv_iload hx hb dX1_join_12 (lv_at hl 2 rfl) ?_
      refine lv_if_lt (tgt := 69) hx hb dX1_join_14 (by decide) (fun c14 => ?_) (fun c14 => ?_)
      · skip
        exact absurd c14 hd.2.1
      · skip
        have h_a := Pt_in h_pa c9
        have h_b := Pt_in h_pb c14
        refine lv_aload_n hx hb dX1_join_17 rfl (lv_at hl 0 rfl) ?_
        refine lv_iload_n hx hb dX1_join_18 rfl (lv_at hl 1 rfl) ?_
        refine lv_iload hx hb dX1_join_19 (lv_at hl 2 rfl) ?_
        refine gCallI (ci := 1) (As := [.int a, .int b]) (rest := []) S (wX1_g dA o q) Y hA (c1_isBefore l D dA o q σ a b h_a h_b) (cwV 2 S.2.2.2.2.1 (lw_V q284 q286 qs20 q26 q287) rfl rfl rfl (by decide +kernel) ⟨Nat.le_of_ble_eq_true rfl, Nat.le_of_ble_eq_true rfl⟩) rfl rfl rfl rfl hl.1 rfl (Nat.le_of_ble_eq_true rfl) dX1_join_21 ⟨Nat.le_refl _, Nat.le_refl _⟩ (fun r1 t1 H locs h_t1 Y => ?_)
        rw [h_t1.1] at Y
        refine lv_if_eq (tgt := 45) hx hb dX1_join_24 (by decide) (fun c24 => ?_) (fun c24 => ?_)
        · skip
          obtain ⟨e_x, hd'⟩ := Dn_f hd (by rw [← h0]; rcases h_t1.2 with ⟨e, -⟩ | ⟨-, h⟩; exact absurd (e.symm.trans c24) (by decide); exact h)
          refine lv_aload_n hx hb dX1_join_45 rfl (lv_at hl 0 rfl) ?_
          refine x1_g10 S Y dX1_join_46 ?_
          refine lv_iload hx hb dX1_join_49 (lv_at hl 3 rfl) ?_
          refine lv_iload hx hb dX1_join_51 (lv_at hl 2 rfl) ?_
          refine x1_s10 S Y h_n dX1_join_53 (fun t2 H locs e_t2 Y => ?_)
          refine lv_aload_n hx hb dX1_join_54 rfl (lv_at hl 0 rfl) ?_
          refine x1_g2 S Y dX1_join_55 ?_
          refine lv_iload hx hb dX1_join_58 (lv_at hl 2 rfl) ?_
          refine x1_l2 S Y h_b dX1_join_60 ?_
          refine lv_istore (lv' := [(4, .int (t2 2 b.toNatClampNeg)), (0, .ref o), (3, .int a), (5, .int (nI dn.length))]) hx hb dX1_join_61 hl (by decide) rfl (fun ls hl => ?_)
          refine lv_iinc (v := nI (dn ++ [x]).length) (lv' := [(5, .int (nI (dn ++ [x]).length)), (4, .int (t2 2 b.toNatClampNeg)), (0, .ref o), (3, .int a)]) hx hb dX1_join_63 hl (k := 3) rfl (by rw [List.length_append, List.length_singleton]; exact nI_1 _) (by decide) rfl (fun ls hl => ?_)
          refine lv_goto (tgt := 8) hx hb dX1_join_66 (by decide) ?_
          exact ih (dn ++ [x]) a (t2 2 b.toNatClampNeg) t2 H locs ls (by rw [List.append_assoc]; exact hF) (by rw [e_t2]; show Dn _ _ _ _ (σ 2 _) _; rw [h2]; exact hd') (by rw [e_t2, e_x]; show Hl (upd (σ 10) (nI dn.length).toNatClampNeg b) _; rw [nI_clamp (by omega)]; exact Hl_push h13 _) h_pa (by rw [e_t2]; show Pt (σ 2 _); rw [h2]; exact Bd_at hB2 h_b) (Ex_tr hE (by rw [e_t2]; exact Ex_up (by decide))) Y (lv_sub hl [2, 3, 1, 0] rfl)
        · skip
          obtain ⟨e_x, hd'⟩ := Dn_t hd (by rw [← h0]; rcases h_t1.2 with ⟨-, h⟩ | ⟨e, -⟩; exact h; exact absurd e c24)
          refine lv_aload_n hx hb dX1_join_27 rfl (lv_at hl 0 rfl) ?_
          refine x1_g10 S Y dX1_join_28 ?_
          refine lv_iload hx hb dX1_join_31 (lv_at hl 3 rfl) ?_
          refine lv_iload_n hx hb dX1_join_33 rfl (lv_at hl 1 rfl) ?_
          refine x1_s10 S Y h_n dX1_join_34 (fun t2 H locs e_t2 Y => ?_)
          refine lv_aload_n hx hb dX1_join_35 rfl (lv_at hl 0 rfl) ?_
          refine x1_g2 S Y dX1_join_36 ?_
          refine lv_iload_n hx hb dX1_join_39 rfl (lv_at hl 1 rfl) ?_
          refine x1_l2 S Y h_a dX1_join_40 ?_
          refine lv_istore_n (lv' := [(3, .int (t2 2 a.toNatClampNeg)), (0, .ref o), (4, .int b), (5, .int (nI dn.length))]) hx hb dX1_join_41 rfl hl (by decide) rfl (fun ls hl => ?_)
          refine lv_goto (tgt := 63) hx hb dX1_join_42 (by decide) ?_
          refine lv_iinc (v := nI (dn ++ [x]).length) (lv' := [(5, .int (nI (dn ++ [x]).length)), (3, .int (t2 2 a.toNatClampNeg)), (0, .ref o), (4, .int b)]) hx hb dX1_join_63 hl (k := 3) rfl (by rw [List.length_append, List.length_singleton]; exact nI_1 _) (by decide) rfl (fun ls hl => ?_)
          refine lv_goto (tgt := 8) hx hb dX1_join_66 (by decide) ?_
          exact ih (dn ++ [x]) (t2 2 a.toNatClampNeg) b t2 H locs ls (by rw [List.append_assoc]; exact hF) (by rw [e_t2]; show Dn _ _ _ (σ 2 _) _ _; rw [h2]; exact hd') (by rw [e_t2, e_x]; show Hl (upd (σ 10) (nI dn.length).toNatClampNeg a) _; rw [nI_clamp (by omega)]; exact Hl_push h13 _) (by rw [e_t2]; show Pt (σ 2 _); rw [h2]; exact Bd_at hB2 h_a) h_pb (Ex_tr hE (by rw [e_t2]; exact Ex_up (by decide))) Y (lv_sub hl [2, 1, 3, 0] rfl)
set_option maxHeartbeats 4000000 in
set_option maxRecDepth 100000 in
/-- LeftistHeapsModel.join, the way up -/
theorem x1_up {p : Program} {l : Launch} {e : Env} {s : State} {m : MethodId} {args : Array Value} {below : List Frame} {meth : Method} {c : Code} {Q : State → Prop} {D : va_G} {dA : Nat → ClassId} {o : Nat} {q : Nat → Nat} {A : Nat → Prop} {H0 : Heap} {σ0 α : CS} {bl : Int32} {F : List Int32} (S : gS p s m meth c cX1_join 10 args RX1 (some .int) D (tX1 dA)) (hA : ∀ q, H0.size ≤ q → A q) (h_F : ∀ c ∈ F, vp_in c 60) (hlen : F.length ≤ 60) (h_bl : Pt bl) (hB1 : Bd (α 1)) (hB2 : Bd (α 2)) (kk : ∀ (σ : CS) (H : Heap) (locs : List Loc) (ls : Array Slot), σ 1 = (upA F bl α).2 1 → σ 2 = (upA F bl α).2 2 → σ 3 = (upA F bl α).2 3 → Ex [1, 2, 3, 10] σ0 σ → gP D (wX1 dA o q) A H0 σ H locs → lv_has ls 10 [(0, .ref o), (6, .int (upA F bl α).1)] → W p l e { frames := 1, cells := 0, slots := 0, locals := 22 } s m args below meth c H locs 0 0 Q (F0 m 197 ls [])) : ∀ (rp suf : List Int32) (x7 x6 : Int32) (σ : CS) (H : Heap) (locs : List Loc) (ls : Array Slot), rp.reverse ++ suf = F → x7 = nI rp.length - 1 → x6 = (upA suf bl α).1 → σ 1 = (upA suf bl α).2 1 → σ 2 = (upA suf bl α).2 2 → σ 3 = (upA suf bl α).2 3 → Hl (σ 10) F → Ex [1, 2, 3, 10] σ0 σ → gP D (wX1 dA o q) A H0 σ H locs → lv_has ls 10 [(0, .ref o), (6, .int x6), (7, .int x7)] → W p l e { frames := 1, cells := 0, slots := 0, locals := 22 } s m args below meth c H locs 0 0 Q (F0 m 87 ls []) := by
  have hx := S.1
  have hb := S.2.1
  intro rp
  induction rp with
  | nil =>
    intro suf x7 x6 σ H locs ls hF e7 e6 e1 e2 e3 h13 hE Y hl
    have hF : suf = F := hF
    rw [hF] at e6 e1 e2 e3
    refine lv_iload hx hb dX1_join_87 (lv_at hl 2 rfl) ?_
    refine lv_if_lt (tgt := 197) hx hb dX1_join_89 (by decide) (fun c89 => ?_) (fun c89 => ?_)
    · skip
      exact kk σ H locs ls e1 e2 e3 hE Y (by rw [← e6]; exact (lv_sub hl [0, 1] rfl))
    · skip
      exact absurd (by rw [e7]; exact (by decide +kernel : nI 0 - 1 < 0)) c89
  | cons x rp ih =>
    intro suf x7 x6 σ H locs ls hF e7 e6 e1 e2 e3 h13 hE Y hl
    have hF' : rp.reverse ++ (x :: suf) = F := by rw [← hF, List.reverse_cons, List.append_assoc]; rfl
    have e7' : x7 = nI rp.length := e7.trans (nI_pred rp.length)
    have hk : rp.length < 60 := by have := congrArg List.length hF'; rw [List.length_append, List.length_cons, List.length_reverse] at this; omega
    have h_x : vp_in x 60 := h_F x (by rw [← hF']; exact List.mem_append_right _ List.mem_cons_self)
    have h_13 : σ 10 rp.length = x := by have h9 := Hl_mid (a := rp.reverse) (b := suf) (c := x) (by rw [hF']; exact h13); rw [List.length_reverse] at h9; exact h9
    have h_k : vp_in x7 64 := by rw [e7']; exact vp_in_nI (by omega) (by decide)
    have h_s : ∀ c ∈ suf, vp_in c 60 := fun c h => h_F c (by rw [← hF']; exact List.mem_append_right _ (List.mem_cons_of_mem _ h))
    obtain ⟨h_6, hb1, hb2⟩ := upA_Bd h_bl hB1 hB2 suf h_s
    obtain ⟨β, hβ⟩ : ∃ β, β = (upA suf bl α).2 := ⟨_, rfl⟩
    rw [← hβ] at e1 e2 e3 hb1 hb2
    rw [← e6] at h_6
    have hU : upA (x :: suf) bl α = (x, up1 x x6 β) := by rw [e6, hβ]; rfl
    refine lv_iload hx hb dX1_join_87 (lv_at hl 2 rfl) ?_
    refine lv_if_lt (tgt := 197) hx hb dX1_join_89 (by decide) (fun c89 => ?_) (fun c89 => ?_)
    · skip
      exact absurd c89 (by rw [e7']; exact nI_pos (by omega))
    · skip
      refine lv_aload_n hx hb dX1_join_92 rfl (lv_at hl 0 rfl) ?_
      refine x1_g10 S Y dX1_join_93 ?_
      refine lv_iload hx hb dX1_join_96 (lv_at hl 2 rfl) ?_
      refine x1_l10 S Y h_k dX1_join_98 ?_
      refine lv_topi (fun v8 e_v8 => ?_)
      have e9 : x = v8 := by rw [e_v8, e7', nI_clamp (by omega), h_13]
      subst e9
      refine lv_istore (lv' := [(8, .int x), (0, .ref o), (6, .int x6), (7, .int x7)]) hx hb dX1_join_99 hl (by decide) rfl (fun ls hl => ?_)
      refine lv_aload_n hx hb dX1_join_101 rfl (lv_at hl 1 rfl) ?_
      refine x1_g2 S Y dX1_join_102 ?_
      refine lv_iload hx hb dX1_join_105 (lv_at hl 0 rfl) ?_
      refine lv_iload hx hb dX1_join_107 (lv_at hl 2 rfl) ?_
      refine x1_s2 S Y h_x dX1_join_109 (fun t1 H locs e_t1 Y => ?_)
      refine lv_aload_n hx hb dX1_join_110 rfl (lv_at hl 1 rfl) ?_
      refine lv_aload_n hx hb dX1_join_111 rfl (lv_at hl 1 rfl) ?_
      refine x1_g2 S Y dX1_join_112 ?_
      refine lv_iload hx hb dX1_join_115 (lv_at hl 0 rfl) ?_
      refine x1_l2 S Y h_x dX1_join_117 ?_
      refine lv_topi (fun v2 e_v2 => ?_)
      have e9 : x6 = v2 := by rw [e_v2, e_t1]; exact pk_us.symm
      subst e9
      refine gCallI (ci := 1) (As := [.int x6]) (rest := []) S (wX1_g dA o q) Y hA (c1_rankOf l D dA o q t1 x6 h_6) (cwV 1 S.2.2.2.2.1 (lw_V q288 q290 qs21 q26 q291) rfl rfl rfl (by decide +kernel) ⟨Nat.le_of_ble_eq_true rfl, Nat.le_of_ble_eq_true rfl⟩) rfl rfl rfl rfl hl.1 rfl (Nat.le_of_ble_eq_true rfl) dX1_join_118 ⟨Nat.le_refl _, Nat.le_refl _⟩ (fun r1 s1 H locs h_s1 Y => ?_)
      rw [h_s1.1] at Y
      refine lv_aload_n hx hb dX1_join_121 rfl (lv_at hl 1 rfl) ?_
      refine lv_aload_n hx hb dX1_join_122 rfl (lv_at hl 1 rfl) ?_
      refine x1_g1 S Y dX1_join_123 ?_
      refine lv_iload hx hb dX1_join_126 (lv_at hl 0 rfl) ?_
      refine x1_l1 S Y h_x dX1_join_128 ?_
      refine gCallI (ci := 1) (As := [.int (t1 1 x.toNatClampNeg)]) (rest := [.int r1]) S (wX1_g dA o q) Y hA (c1_rankOf l D dA o q t1 (t1 1 x.toNatClampNeg) (by rw [e_t1]; show Pt (σ 1 _); rw [e1]; exact Bd_at hb1 h_x)) (cwV 1 S.2.2.2.2.1 (lw_V q288 q290 qs21 q26 q291) rfl rfl rfl (by decide +kernel) ⟨Nat.le_of_ble_eq_true rfl, Nat.le_of_ble_eq_true rfl⟩) rfl rfl rfl rfl hl.1 rfl (Nat.le_of_ble_eq_true rfl) dX1_join_129 ⟨Nat.le_refl _, Nat.le_refl _⟩ (fun r2 s2 H locs h_s2 Y => ?_)
      rw [h_s2.1] at Y
      refine lv_icmp_le (tgt := 167) hx hb dX1_join_132 (by decide) (fun c132 => ?_) (fun c132 => ?_)
      · skip
        have hup := up1_no (c := x) (x := x6) (β := β) (by rw [← e3, ← e1]; have h1 := h_s1.2; have h2 := h_s2.2; rw [e_t1] at h1 h2; rw [h1, h2] at c132; exact c132)
        refine lv_aload_n hx hb dX1_join_167 rfl (lv_at hl 1 rfl) ?_
        refine x1_g3 S Y dX1_join_168 ?_
        refine lv_iload hx hb dX1_join_171 (lv_at hl 0 rfl) ?_
        refine lv_iconst (v := 1) hx hb dX1_join_173 (by decide) ?_
        refine lv_aload_n hx hb dX1_join_174 rfl (lv_at hl 1 rfl) ?_
        refine lv_aload_n hx hb dX1_join_175 rfl (lv_at hl 1 rfl) ?_
        refine x1_g2 S Y dX1_join_176 ?_
        refine lv_iload hx hb dX1_join_179 (lv_at hl 0 rfl) ?_
        refine x1_l2 S Y h_x dX1_join_181 ?_
        refine lv_topi (fun v3 e_v3 => ?_)
        have e9 : x6 = v3 := by rw [e_v3, e_t1]; exact pk_us.symm
        subst e9
        refine gCallI (ci := 1) (As := [.int x6]) (rest := [.int 1, .int x, .ref (q 3)]) S (wX1_g dA o q) Y hA (c1_rankOf l D dA o q t1 x6 h_6) (cwV 1 S.2.2.2.2.1 (lw_V q288 q290 qs21 q26 q291) rfl rfl rfl (by decide +kernel) ⟨Nat.le_of_ble_eq_true rfl, Nat.le_of_ble_eq_true rfl⟩) rfl rfl rfl rfl hl.1 rfl (Nat.le_of_ble_eq_true rfl) dX1_join_182 ⟨Nat.le_refl _, Nat.le_refl _⟩ (fun r3 s3 H locs h_s3 Y => ?_)
        rw [h_s3.1] at Y
        refine lv_iadd hx hb dX1_join_185 ?_
        refine x1_s3 S Y h_x dX1_join_186 (fun t2 H locs e_t2 Y => ?_)
        refine lv_iload hx hb dX1_join_187 (lv_at hl 0 rfl) ?_
        refine lv_istore (lv' := [(6, .int x), (8, .int x), (0, .ref o), (7, .int x7)]) hx hb dX1_join_189 hl (by decide) rfl (fun ls hl => ?_)
        refine lv_iinc (v := x7 + (-1)) (lv' := [(7, .int (x7 + (-1))), (6, .int x), (8, .int x), (0, .ref o)]) hx hb dX1_join_191 hl (k := 3) rfl rfl (by decide) rfl (fun ls hl => ?_)
        refine lv_goto (tgt := 87) hx hb dX1_join_194 (by decide) ?_
        exact ih (x :: suf) (x7 + (-1)) x t2 H locs ls hF' (by rw [e7']; exact am1 _) (by rw [hU]) (by rw [hU]; show t2 1 = up1 x x6 β 1; rw [hup, e_t2, e_t1]; exact e1) (by rw [hU]; show t2 2 = up1 x x6 β 2; rw [hup, e_t2, e_t1]; show upd (σ 2) _ x6 = upd (β 2) _ x6; rw [e2]) (by rw [hU]; show t2 3 = up1 x x6 β 3; rw [hup, e_t2, e_t1]; show upd (σ 3) _ (1 + r3) = upd (β 3) _ _; rw [show r3 = rk (σ 3) x6 from h_s3.2.trans (by rw [e_t1]; rfl), e3, Int32.add_comm]) (by rw [e_t2, e_t1]; exact h13) (Ex_tr hE (by rw [e_t2, e_t1]; exact Ex_tr (Ex_up (by decide)) (Ex_up (by decide)))) Y (lv_sub hl [3, 1, 0] rfl)
      · skip
        have hup := up1_yes (c := x) (x := x6) (β := β) (by rw [← e3, ← e1]; have h1 := h_s1.2; have h2 := h_s2.2; rw [e_t1] at h1 h2; rw [h1, h2] at c132; exact c132)
        refine lv_aload_n hx hb dX1_join_135 rfl (lv_at hl 1 rfl) ?_
        refine x1_g1 S Y dX1_join_136 ?_
        refine lv_iload hx hb dX1_join_139 (lv_at hl 0 rfl) ?_
        refine x1_l1 S Y h_x dX1_join_141 ?_
        refine lv_topi (fun v9 e_v9 => ?_)
        have e_v9 : v9 = σ 1 x.toNatClampNeg := by rw [e_v9, e_t1]; rfl
        refine lv_istore (lv' := [(9, .int v9), (8, .int x), (0, .ref o), (6, .int x6), (7, .int x7)]) hx hb dX1_join_142 hl (by decide) rfl (fun ls hl => ?_)
        refine lv_aload_n hx hb dX1_join_144 rfl (lv_at hl 2 rfl) ?_
        refine x1_g1 S Y dX1_join_145 ?_
        refine lv_iload hx hb dX1_join_148 (lv_at hl 1 rfl) ?_
        refine lv_aload_n hx hb dX1_join_150 rfl (lv_at hl 2 rfl) ?_
        refine x1_g2 S Y dX1_join_151 ?_
        refine lv_iload hx hb dX1_join_154 (lv_at hl 1 rfl) ?_
        refine x1_l2 S Y h_x dX1_join_156 ?_
        refine lv_topi (fun v4 e_v4 => ?_)
        have e9 : x6 = v4 := by rw [e_v4, e_t1]; exact pk_us.symm
        subst e9
        refine x1_s1 S Y h_x dX1_join_157 (fun t2 H locs e_t2 Y => ?_)
        refine lv_aload_n hx hb dX1_join_158 rfl (lv_at hl 2 rfl) ?_
        refine x1_g2 S Y dX1_join_159 ?_
        refine lv_iload hx hb dX1_join_162 (lv_at hl 1 rfl) ?_
        refine lv_iload hx hb dX1_join_164 (lv_at hl 0 rfl) ?_
        refine x1_s2 S Y h_x dX1_join_166 (fun t3 H locs e_t3 Y => ?_)
        refine lv_aload_n hx hb dX1_join_167 rfl (lv_at hl 2 rfl) ?_
        refine x1_g3 S Y dX1_join_168 ?_
        refine lv_iload hx hb dX1_join_171 (lv_at hl 1 rfl) ?_
        refine lv_iconst (v := 1) hx hb dX1_join_173 (by decide) ?_
        refine lv_aload_n hx hb dX1_join_174 rfl (lv_at hl 2 rfl) ?_
        refine lv_aload_n hx hb dX1_join_175 rfl (lv_at hl 2 rfl) ?_
        refine x1_g2 S Y dX1_join_176 ?_
        refine lv_iload hx hb dX1_join_179 (lv_at hl 1 rfl) ?_
        refine x1_l2 S Y h_x dX1_join_181 ?_
        refine lv_topi (fun v3 e_v3 => ?_)
        have e9 : v3 = σ 1 x.toNatClampNeg := by rw [e_v3, e_t3, ← e_v9]; exact pk_us
        refine gCallI (ci := 1) (As := [.int v3]) (rest := [.int 1, .int x, .ref (q 3)]) S (wX1_g dA o q) Y hA (c1_rankOf l D dA o q t3 v3 (by rw [e9, e1]; exact Bd_at hb1 h_x)) (cwV 1 S.2.2.2.2.1 (lw_V q288 q290 qs21 q26 q291) rfl rfl rfl (by decide +kernel) ⟨Nat.le_of_ble_eq_true rfl, Nat.le_of_ble_eq_true rfl⟩) rfl rfl rfl rfl hl.1 rfl (Nat.le_of_ble_eq_true rfl) dX1_join_182 ⟨Nat.le_refl _, Nat.le_refl _⟩ (fun r3 s3 H locs h_s3 Y => ?_)
        rw [h_s3.1] at Y
        refine lv_iadd hx hb dX1_join_185 ?_
        refine x1_s3 S Y h_x dX1_join_186 (fun t4 H locs e_t4 Y => ?_)
        refine lv_iload hx hb dX1_join_187 (lv_at hl 1 rfl) ?_
        refine lv_istore (lv' := [(6, .int x), (9, .int v9), (8, .int x), (0, .ref o), (7, .int x7)]) hx hb dX1_join_189 hl (by decide) rfl (fun ls hl => ?_)
        refine lv_iinc (v := x7 + (-1)) (lv' := [(7, .int (x7 + (-1))), (6, .int x), (9, .int v9), (8, .int x), (0, .ref o)]) hx hb dX1_join_191 hl (k := 4) rfl rfl (by decide) rfl (fun ls hl => ?_)
        refine lv_goto (tgt := 87) hx hb dX1_join_194 (by decide) ?_
        exact ih (x :: suf) (x7 + (-1)) x t4 H locs ls hF' (by rw [e7']; exact am1 _) (by rw [hU]) (by rw [hU]; show t4 1 = up1 x x6 β 1; rw [hup, e_t4, e_t3, e_t2, e_t1]; show upd (σ 1) _ x6 = upd (β 1) _ x6; rw [e1]) (by rw [hU]; show t4 2 = up1 x x6 β 2; rw [hup, e_t4, e_t3, e_t2, e_t1]; show upd (upd (σ 2) _ x6) _ v9 = upd (β 2) _ (β 1 _); rw [upd_upd, e2, e_v9, e1]) (by rw [hU]; show t4 3 = up1 x x6 β 3; rw [hup, e_t4, e_t3, e_t2, e_t1]; show upd (σ 3) _ (1 + r3) = upd (β 3) _ _; rw [show r3 = rk (σ 3) (σ 1 x.toNatClampNeg) from h_s3.2.trans (by rw [e9, e_t3, e_t2, e_t1]; rfl), e3, e1, Int32.add_comm]) (by rw [e_t4, e_t3, e_t2, e_t1]; exact h13) (Ex_tr hE (by rw [e_t4, e_t3, e_t2, e_t1]; exact Ex_tr (Ex_tr (Ex_tr (Ex_up (by decide)) (Ex_up (by decide))) (Ex_up (by decide))) (Ex_up (by decide)))) Y (lv_sub hl [4, 1, 0] rfl)
set_option maxHeartbeats 4000000 in
set_option maxRecDepth 100000 in
/-- LeftistHeapsModel.join -/
theorem c1_join (l : Launch) (D : va_G) (dA : Nat → ClassId) (o : Nat) (q : Nat → Nat) (σ : CS) (α : CS) (a b r : Int32) (α' : CS) (ham : Am α σ) (hm : Md α a b r α') : gMi l D (wX1 dA o q) (tX1 dA) yX1_join cX1_join 10 (some .int) { frames := 1, cells := 0, slots := 0, locals := 22 } [.ref o, .int a, .int b] σ (fun r' σ' => r' = r ∧ Am α' σ' ∧ σ' 11 = σ 11 ∧ σ' 12 = σ 12) := by
  intro sz
  refine gEnter (own := RX1) (lv := [(0, .ref o), (1, .int a), (2, .int b)]) (wX1_g dA o q) (by decide) rfl (Nat.le_of_ble_eq_true rfl) rfl (fun p e s m below meth c ls S hA Y hl => ?_)
  have hx := S.1
  have hb := S.2.1
  obtain ⟨⟨hB1, hB2, h_pa, h_pb⟩, stk, bl, hdn, hlen, hr9, hα9⟩ := hm
  obtain ⟨h_F, h_bl⟩ := Dn_in hB2 stk hdn h_pa h_pb
  have a0 := ham 0 (by decide)
  have a1 := ham 1 (by decide)
  have a2 := ham 2 (by decide)
  have a3 := ham 3 (by decide)
  refine lv_iload_n hx hb dX1_join_0 rfl (lv_at hl 1 rfl) ?_
  refine lv_istore_n (lv' := [(3, .int a), (0, .ref o), (1, .int a), (2, .int b)]) hx hb dX1_join_1 rfl hl (by decide) rfl (fun ls hl => ?_)
  refine lv_iload_n hx hb dX1_join_2 rfl (lv_at hl 3 rfl) ?_
  refine lv_istore (lv' := [(4, .int b), (3, .int a), (0, .ref o), (1, .int a), (2, .int b)]) hx hb dX1_join_3 hl (by decide) rfl (fun ls hl => ?_)
  refine lv_iconst (v := 0) hx hb dX1_join_5 (by decide) ?_
  refine lv_istore (lv' := [(5, .int 0), (4, .int b), (3, .int a), (0, .ref o), (1, .int a), (2, .int b)]) hx hb dX1_join_6 hl (by decide) rfl (fun ls hl => ?_)
  refine x1_dn (σ0 := σ) (bl := bl) (F := stk) S hA (by rw [a2]; exact hB2) hlen ?_ stk [] a b σ _ _ ls rfl (by rw [a0, a2]; exact hdn) (Hl_nil _) h_pa h_pb (Ex_rf _ _) Y (lv_sub hl [3, 2, 1, 0] rfl)
  intro σ1 a1v b1v H locs ls h13 hE e_bl Y hl
  refine lv_iload_n hx hb dX1_join_69 rfl (lv_at hl 1 rfl) ?_
  refine lv_if_lt (tgt := 77) hx hb dX1_join_70 (by decide) (fun c70 => ?_) (fun c70 => ?_)
  · skip
    refine lv_iload hx hb dX1_join_77 (lv_at hl 2 rfl) ?_
    refine lv_istore (lv' := [(6, .int b1v), (0, .ref o), (3, .int a1v), (4, .int b1v), (5, .int (nI stk.length))]) hx hb dX1_join_79 hl (by decide) rfl (fun ls hl => ?_)
    refine lv_iload hx hb dX1_join_81 (lv_at hl 4 rfl) ?_
    refine lv_iconst (v := 1) hx hb dX1_join_83 (by decide) ?_
    refine lv_isub hx hb dX1_join_84 ?_
    refine lv_istore (lv' := [(7, .int ((nI stk.length) - 1)), (6, .int b1v), (0, .ref o), (3, .int a1v), (4, .int b1v), (5, .int (nI stk.length))]) hx hb dX1_join_85 hl (by decide) rfl (fun ls hl => ?_)
    refine x1_up (σ0 := σ) (α := α) (bl := bl) (F := stk) S hA h_F hlen h_bl hB1 hB2 ?_ stk.reverse [] (nI stk.length - 1) b1v σ1 _ _ ls (by rw [List.reverse_reverse, List.append_nil]) (by rw [List.length_reverse]) (by rw [if_pos c70] at e_bl; exact e_bl.symm) ((hE 1 (by decide)).trans a1) ((hE 2 (by decide)).trans a2) ((hE 3 (by decide)).trans a3) h13 (Ex_sub hE (by decide)) Y (lv_sub hl [2, 1, 0] rfl)
    intro σ2 H locs ls e1 e2 e3 hE2 Y hl
    refine lv_iload hx hb dX1_join_197 (lv_at hl 1 rfl) ?_
    exact gIret S Y rfl (⟨hr9.symm, Am_up ham hE2 (fun k h1 h2 h3 => by rw [hα9]; exact upA_ex h1 h2 h3 stk) (by rw [hα9]; exact e1) (by rw [hα9]; exact e2) (by rw [hα9]; exact e3), hE2 11 (by decide), hE2 12 (by decide)⟩) dX1_join_199
  · skip
    refine lv_iload_n hx hb dX1_join_73 rfl (lv_at hl 1 rfl) ?_
    refine lv_goto (tgt := 79) hx hb dX1_join_74 (by decide) ?_
    refine lv_istore (lv' := [(6, .int a1v), (0, .ref o), (3, .int a1v), (4, .int b1v), (5, .int (nI stk.length))]) hx hb dX1_join_79 hl (by decide) rfl (fun ls hl => ?_)
    refine lv_iload hx hb dX1_join_81 (lv_at hl 4 rfl) ?_
    refine lv_iconst (v := 1) hx hb dX1_join_83 (by decide) ?_
    refine lv_isub hx hb dX1_join_84 ?_
    refine lv_istore (lv' := [(7, .int ((nI stk.length) - 1)), (6, .int a1v), (0, .ref o), (3, .int a1v), (4, .int b1v), (5, .int (nI stk.length))]) hx hb dX1_join_85 hl (by decide) rfl (fun ls hl => ?_)
    refine x1_up (σ0 := σ) (α := α) (bl := bl) (F := stk) S hA h_F hlen h_bl hB1 hB2 ?_ stk.reverse [] (nI stk.length - 1) a1v σ1 _ _ ls (by rw [List.reverse_reverse, List.append_nil]) (by rw [List.length_reverse]) (by rw [if_neg c70] at e_bl; exact e_bl.symm) ((hE 1 (by decide)).trans a1) ((hE 2 (by decide)).trans a2) ((hE 3 (by decide)).trans a3) h13 (Ex_sub hE (by decide)) Y (lv_sub hl [2, 1, 0] rfl)
    intro σ2 H locs ls e1 e2 e3 hE2 Y hl
    refine lv_iload hx hb dX1_join_197 (lv_at hl 1 rfl) ?_
    exact gIret S Y rfl (⟨hr9.symm, Am_up ham hE2 (fun k h1 h2 h3 => by rw [hα9]; exact upA_ex h1 h2 h3 stk) (by rw [hα9]; exact e1) (by rw [hα9]; exact e2) (by rw [hα9]; exact e3), hE2 11 (by decide), hE2 12 (by decide)⟩) dX1_join_199
end
section
set_option maxHeartbeats 4000000 in
set_option maxRecDepth 100000 in
/-- LeftistHeapsModel.joinRow, one pass over the row -/
theorem x1_ps {p : Program} {l : Launch} {e : Env} {s : State} {m : MethodId} {args : Array Value} {below : List Frame} {meth : Method} {c : Code} {Q : State → Prop} {D : va_G} {dA : Nat → ClassId} {o : Nat} {q : Nat → Nat} {A : Nat → Prop} {H0 : Heap} {α' : CS} {O : List Int32} {n : Nat} (S : gS p s m meth c cX1_joinRow 3 args RX1 (some .int) D (tX1 dA)) (hA : ∀ q, H0.size ≤ q → A q) (hn : n ≤ 60) (kk : ∀ (σ : CS) (H : Heap) (locs : List Loc) (ls : Array Slot), Am α' σ → Hl (σ 11) O → gP D (wX1 dA o q) A H0 σ H locs → lv_has ls 3 [(0, .ref o), (1, .int (nI O.length))] → W p l e { frames := 2, cells := 0, slots := 0, locals := 51 } s m args below meth c H locs 0 0 Q (F0 m 73 ls [])) : ∀ (N : Nat) (rs out out' : List Int32) (k : Nat) (α σ : CS) (H : Heap) (locs : List Loc) (ls : Array Slot), rs.length ≤ N → out ++ out' = O → ((rs = [] ∧ n ≤ k ∧ k ≤ 61) ∨ k + rs.length = n) → out.length ≤ k → Ps rs α out' α' → Am α σ → σ 12 0 = nI n → Hl (σ 11) out → Hs (σ 11) k rs → gP D (wX1 dA o q) A H0 σ H locs → lv_has ls 3 [(0, .ref o), (1, .int (nI out.length)), (2, .int (nI k))] → W p l e { frames := 2, cells := 0, slots := 0, locals := 51 } s m args below meth c H locs 0 0 Q (F0 m 12 ls []) := by
  have hx := S.1
  have hb := S.2.1
  intro N
  induction N with
  | zero =>
    intro rs out out' k α σ H locs ls hN hO hk hok hps ham e12 h14 hrs Y hl
    have e0 : rs = [] := List.eq_nil_of_length_eq_zero (Nat.le_zero.mp hN)
    subst e0
    obtain ⟨h9, e9⟩ := hps
    rw [h9, List.append_nil] at hO
    have hk9 : n ≤ k ∧ k ≤ 61 := by rcases hk with h | h; exact h.2; (have h : k + 0 = n := h); omega
    refine lv_iload_n hx hb dX1_joinRow_12 rfl (lv_at hl 2 rfl) ?_
    refine lv_aload_n hx hb dX1_joinRow_13 rfl (lv_at hl 0 rfl) ?_
    refine x1_g12 S Y dX1_joinRow_14 ?_
    refine lv_icmp_ge (tgt := 73) hx hb dX1_joinRow_17 (by decide) (fun c17 => ?_) (fun c17 => ?_)
    · skip
      exact kk σ H locs ls (by rw [e9]; exact ham) (hO ▸ h14) Y (hO ▸ (lv_sub hl [0, 1] rfl))
    · skip
      exact absurd (by rw [e12]; exact nI_le hk9.1 (by omega)) c17
  | succ N ih =>
    intro rs out out' k α σ H locs ls hN hO hk hok hps ham e12 h14 hrs Y hl
    match rs, hN, hk, hps, hrs with
    | [], hN, hk, hps, hrs =>
      obtain ⟨h9, e9⟩ := hps
      rw [h9, List.append_nil] at hO
      have hk9 : n ≤ k ∧ k ≤ 61 := by rcases hk with h | h; exact h.2; (have h : k + 0 = n := h); omega
      refine lv_iload_n hx hb dX1_joinRow_12 rfl (lv_at hl 2 rfl) ?_
      refine lv_aload_n hx hb dX1_joinRow_13 rfl (lv_at hl 0 rfl) ?_
      refine x1_g12 S Y dX1_joinRow_14 ?_
      refine lv_icmp_ge (tgt := 73) hx hb dX1_joinRow_17 (by decide) (fun c17 => ?_) (fun c17 => ?_)
      · skip
        exact kk σ H locs ls (by rw [e9]; exact ham) (hO ▸ h14) Y (hO ▸ (lv_sub hl [0, 1] rfl))
      · skip
        exact absurd (by rw [e12]; exact nI_le hk9.1 (by omega)) c17
    | [x], hN, hk, hps, hrs =>
      obtain ⟨h9, e9⟩ := hps
      have hk9 : k + 1 = n := by rcases hk with h | h; exact absurd h.1 (by simp); exact h
      have h_k : vp_in (nI k) 64 := vp_in_nI (by omega) (by decide)
      have h_o : vp_in (nI out.length) 64 := vp_in_nI (by omega) (by decide)
      refine lv_iload_n hx hb dX1_joinRow_12 rfl (lv_at hl 2 rfl) ?_
      refine lv_aload_n hx hb dX1_joinRow_13 rfl (lv_at hl 0 rfl) ?_
      refine x1_g12 S Y dX1_joinRow_14 ?_
      refine lv_icmp_ge (tgt := 73) hx hb dX1_joinRow_17 (by decide) (fun c17 => ?_) (fun c17 => ?_)
      · skip
        exact absurd c17 (by rw [e12]; exact nI_ge (by omega) (by omega))
      · skip
        refine lv_aload_n hx hb dX1_joinRow_20 rfl (lv_at hl 0 rfl) ?_
        refine x1_g11 S Y dX1_joinRow_21 ?_
        refine lv_iload_n hx hb dX1_joinRow_24 rfl (lv_at hl 1 rfl) ?_
        refine lv_iload_n hx hb dX1_joinRow_25 rfl (lv_at hl 2 rfl) ?_
        refine lv_iconst (v := 1) hx hb dX1_joinRow_26 (by decide) ?_
        refine lv_iadd hx hb dX1_joinRow_27 ?_
        refine lv_aload_n hx hb dX1_joinRow_28 rfl (lv_at hl 0 rfl) ?_
        refine x1_g12 S Y dX1_joinRow_29 ?_
        refine lv_icmp_ge (tgt := 56) hx hb dX1_joinRow_32 (by decide) (fun c32 => ?_) (fun c32 => ?_)
        · skip
          refine lv_aload_n hx hb dX1_joinRow_56 rfl (lv_at hl 0 rfl) ?_
          refine x1_g11 S Y dX1_joinRow_57 ?_
          refine lv_iload_n hx hb dX1_joinRow_60 rfl (lv_at hl 2 rfl) ?_
          refine x1_l11 S Y h_k dX1_joinRow_61 ?_
          refine lv_topi (fun v1 e_v1 => ?_)
          have e9 : x = v1 := by rw [e_v1, nI_clamp (by omega)]; exact (Hs_0 hrs).symm
          subst e9
          refine x1_s11 S Y h_o dX1_joinRow_62 (fun t1 H locs e_t1 Y => ?_)
          refine lv_iinc (v := nI (out ++ [x]).length) (lv' := [(1, .int (nI (out ++ [x]).length)), (0, .ref o), (2, .int (nI k))]) hx hb dX1_joinRow_63 hl (k := 1) rfl (by rw [List.length_append, List.length_singleton]; exact nI_1 _) (by decide) rfl (fun ls hl => ?_)
          refine lv_iload_n hx hb dX1_joinRow_66 rfl (lv_at hl 2 rfl) ?_
          refine lv_iconst (v := 2) hx hb dX1_joinRow_67 (by decide) ?_
          refine lv_iadd hx hb dX1_joinRow_68 ?_
          refine lv_topi (fun v9 e_v9 => ?_)
          have e9 : (nI (k + 2)) = v9 := by rw [e_v9]; exact (nI_2 k).symm
          subst e9
          refine lv_istore_n (lv' := [(2, .int (nI (k + 2))), (1, .int (nI (out ++ [x]).length)), (0, .ref o)]) hx hb dX1_joinRow_69 rfl hl (by decide) rfl (fun ls hl => ?_)
          refine lv_goto (tgt := 12) hx hb dX1_joinRow_70 (by decide) ?_
          exact ih [] (out ++ [x]) [] (k + 2) α t1 H locs ls (Nat.zero_le _) (by rw [List.append_nil, ← hO, h9]) (Or.inl ⟨rfl, by omega, by omega⟩) (by rw [List.length_append, List.length_singleton]; omega) ⟨rfl, e9⟩ (Am_sc ham (by rw [e_t1]; exact Ex_up (by decide))) (by rw [e_t1]; exact e12) (by rw [e_t1]; show Hl (upd (σ 11) (nI out.length).toNatClampNeg x) _; rw [nI_clamp (by omega)]; exact Hl_push h14 x) (Hs_nil _ _) Y (lv_sub hl [2, 1, 0] rfl)
        · skip
          exact absurd (by rw [e12, nI_1, hk9]; exact nI_le (Nat.le_refl _) (by omega)) c32
    | x :: y :: rs, hN, hk, hps, hrs =>
      obtain ⟨r, α1, out9, hmd, hps, h9⟩ := hps
      have hk9 : k + (rs.length + 2) = n := by rcases hk with h | h; exact absurd h.1 (by simp); exact h
      have h_k : vp_in (nI k) 64 := vp_in_nI (by omega) (by decide)
      have h_k1 : vp_in ((nI k) + 1) 64 := by rw [nI_1]; exact vp_in_nI (by omega) (by decide)
      have h_o : vp_in (nI out.length) 64 := vp_in_nI (by omega) (by decide)
      have hN9 : rs.length ≤ N := by simp only [List.length_cons] at hN; omega
      refine lv_iload_n hx hb dX1_joinRow_12 rfl (lv_at hl 2 rfl) ?_
      refine lv_aload_n hx hb dX1_joinRow_13 rfl (lv_at hl 0 rfl) ?_
      refine x1_g12 S Y dX1_joinRow_14 ?_
      refine lv_icmp_ge (tgt := 73) hx hb dX1_joinRow_17 (by decide) (fun c17 => ?_) (fun c17 => ?_)
      · skip
        exact absurd c17 (by rw [e12]; exact nI_ge (by omega) (by omega))
      · skip
        refine lv_aload_n hx hb dX1_joinRow_20 rfl (lv_at hl 0 rfl) ?_
        refine x1_g11 S Y dX1_joinRow_21 ?_
        refine lv_iload_n hx hb dX1_joinRow_24 rfl (lv_at hl 1 rfl) ?_
        refine lv_iload_n hx hb dX1_joinRow_25 rfl (lv_at hl 2 rfl) ?_
        refine lv_iconst (v := 1) hx hb dX1_joinRow_26 (by decide) ?_
        refine lv_iadd hx hb dX1_joinRow_27 ?_
        refine lv_aload_n hx hb dX1_joinRow_28 rfl (lv_at hl 0 rfl) ?_
        refine x1_g12 S Y dX1_joinRow_29 ?_
        refine lv_icmp_ge (tgt := 56) hx hb dX1_joinRow_32 (by decide) (fun c32 => ?_) (fun c32 => ?_)
        · skip
          exact absurd c32 (by rw [e12, nI_1]; exact nI_ge (by omega) (by omega))
        · skip
          refine lv_aload_n hx hb dX1_joinRow_35 rfl (lv_at hl 0 rfl) ?_
          refine lv_aload_n hx hb dX1_joinRow_36 rfl (lv_at hl 0 rfl) ?_
          refine x1_g11 S Y dX1_joinRow_37 ?_
          refine lv_iload_n hx hb dX1_joinRow_40 rfl (lv_at hl 2 rfl) ?_
          refine x1_l11 S Y h_k dX1_joinRow_41 ?_
          refine lv_topi (fun v1 e_v1 => ?_)
          have e9 : x = v1 := by rw [e_v1, nI_clamp (by omega)]; exact (Hs_0 hrs).symm
          subst e9
          refine lv_aload_n hx hb dX1_joinRow_42 rfl (lv_at hl 0 rfl) ?_
          refine x1_g11 S Y dX1_joinRow_43 ?_
          refine lv_iload_n hx hb dX1_joinRow_46 rfl (lv_at hl 2 rfl) ?_
          refine lv_iconst (v := 1) hx hb dX1_joinRow_47 (by decide) ?_
          refine lv_iadd hx hb dX1_joinRow_48 ?_
          refine x1_l11 S Y h_k1 dX1_joinRow_49 ?_
          refine lv_topi (fun v2 e_v2 => ?_)
          have e9 : y = v2 := by rw [e_v2, nI_1, nI_clamp (by omega)]; exact (Hs_1 hrs).symm
          subst e9
          refine gCallI (ci := 1) (As := [.int x, .int y]) (rest := [.int (nI out.length), .ref (q 11)]) S (wX1_g dA o q) Y hA (c1_join l D dA o q σ α x y r α1 ham hmd) (cwV 2 S.2.2.2.2.1 (lw_V q280 q282 qs19 q26 q283) rfl rfl rfl (by decide +kernel) ⟨Nat.le_of_ble_eq_true rfl, Nat.le_of_ble_eq_true rfl⟩) rfl rfl rfl rfl hl.1 rfl (Nat.le_of_ble_eq_true rfl) dX1_joinRow_50 ⟨Nat.le_refl _, Nat.le_refl _⟩ (fun r1 t1 H locs h_t1 Y => ?_)
          obtain ⟨e_r1, ham1, h111, h121⟩ := h_t1
          rw [e_r1]
          refine lv_goto (tgt := 62) hx hb dX1_joinRow_53 (by decide) ?_
          refine x1_s11 S Y h_o dX1_joinRow_62 (fun t2 H locs e_t2 Y => ?_)
          refine lv_iinc (v := nI (out ++ [r]).length) (lv' := [(1, .int (nI (out ++ [r]).length)), (0, .ref o), (2, .int (nI k))]) hx hb dX1_joinRow_63 hl (k := 1) rfl (by rw [List.length_append, List.length_singleton]; exact nI_1 _) (by decide) rfl (fun ls hl => ?_)
          refine lv_iload_n hx hb dX1_joinRow_66 rfl (lv_at hl 2 rfl) ?_
          refine lv_iconst (v := 2) hx hb dX1_joinRow_67 (by decide) ?_
          refine lv_iadd hx hb dX1_joinRow_68 ?_
          refine lv_topi (fun v9 e_v9 => ?_)
          have e9 : (nI (k + 2)) = v9 := by rw [e_v9]; exact (nI_2 k).symm
          subst e9
          refine lv_istore_n (lv' := [(2, .int (nI (k + 2))), (1, .int (nI (out ++ [r]).length)), (0, .ref o)]) hx hb dX1_joinRow_69 rfl hl (by decide) rfl (fun ls hl => ?_)
          refine lv_goto (tgt := 12) hx hb dX1_joinRow_70 (by decide) ?_
          exact ih rs (out ++ [r]) out9 (k + 2) α1 t2 H locs ls hN9 (by rw [List.append_assoc, ← hO, h9]; rfl) (by rcases rs with _ | ⟨u, rs⟩; exact Or.inl ⟨rfl, by simp only [List.length_nil] at hk9; omega, by omega⟩; exact Or.inr (by omega)) (by rw [List.length_append, List.length_singleton]; omega) hps (Am_sc ham1 (by rw [e_t2]; exact Ex_up (by decide))) (by rw [e_t2]; show t1 12 0 = _; rw [h121]; exact e12) (by rw [e_t2]; show Hl (upd (t1 11) (nI out.length).toNatClampNeg r) _; rw [nI_clamp (by omega), h111]; exact Hl_push h14 r) (by rw [e_t2]; show Hs (upd (t1 11) (nI out.length).toNatClampNeg r) _ _; rw [nI_clamp (by omega), h111]; exact Hs_drop2 hrs hok) Y (lv_sub hl [2, 1, 0] rfl)
set_option maxHeartbeats 4000000 in
set_option maxRecDepth 100000 in
/-- LeftistHeapsModel.joinRow, pass after pass -/
theorem x1_mr {p : Program} {l : Launch} {e : Env} {s : State} {m : MethodId} {args : Array Value} {below : List Frame} {meth : Method} {c : Code} {Q : State → Prop} {D : va_G} {dA : Nat → ClassId} {o : Nat} {q : Nat → Nat} {A : Nat → Prop} {H0 : Heap} {α' : CS} {r : Int32} (S : gS p s m meth c cX1_joinRow 3 args RX1 (some .int) D (tX1 dA)) (hA : ∀ q, H0.size ≤ q → A q) (kk : ∀ (σ : CS) (H : Heap) (locs : List Loc) (ls : Array Slot), Am α' σ → ((σ 12 0 = 0 ∧ r = -1) ∨ (¬ σ 12 0 = 0 ∧ σ 11 0 = r)) → gP D (wX1 dA o q) A H0 σ H locs → lv_has ls 3 [(0, .ref o)] → W p l e { frames := 2, cells := 0, slots := 0, locals := 51 } s m args below meth c H locs 0 0 Q (F0 m 81 ls [])) : ∀ (K : Nat) (rs : List Int32) (α σ : CS) (H : Heap) (locs : List Loc) (ls : Array Slot), Mr K rs α r α' → rs.length ≤ 60 → Am α σ → σ 12 0 = nI rs.length → Hl (σ 11) rs → gP D (wX1 dA o q) A H0 σ H locs → lv_has ls 3 [(0, .ref o)] → W p l e { frames := 2, cells := 0, slots := 0, locals := 51 } s m args below meth c H locs 0 0 Q (F0 m 0 ls []) := by
  have hx := S.1
  have hb := S.2.1
  intro K
  induction K with
  | zero =>
    intro rs α σ H locs ls hmr hlen ham e12 h14 Y hl
    obtain ⟨h9, e9⟩ := hmr
    have hle : σ 12 0 ≤ 1 := by rcases h9 with h | h; (rw [e12, h.1]; exact (by decide +kernel : nI 0 ≤ 1)); (rw [e12, h]; exact (by decide +kernel : nI 1 ≤ 1))
    refine lv_aload_n hx hb dX1_joinRow_0 rfl (lv_at hl 0 rfl) ?_
    refine x1_g12 S Y dX1_joinRow_1 ?_
    refine lv_iconst (v := 1) hx hb dX1_joinRow_4 (by decide) ?_
    refine lv_icmp_le (tgt := 81) hx hb dX1_joinRow_5 (by decide) (fun c5 => ?_) (fun c5 => ?_)
    · skip
      exact kk σ H locs ls (by rw [e9]; exact ham) (by rcases h9 with h | h; (exact Or.inl ⟨by rw [e12, h.1]; rfl, h.2⟩); (exact Or.inr ⟨by rw [e12, h]; exact (by decide +kernel : ¬ nI 1 = 0), by rw [h] at h14; exact h14 0 (Nat.zero_lt_succ _)⟩)) Y hl
    · skip
      exact absurd hle c5
  | succ K ih =>
    intro rs α σ H locs ls hmr hlen ham e12 h14 Y hl
    obtain ⟨h2, out, α1, hps, hmr⟩ := hmr
    obtain ⟨hl9, hn9⟩ := Ps_len rs hps
    refine lv_aload_n hx hb dX1_joinRow_0 rfl (lv_at hl 0 rfl) ?_
    refine x1_g12 S Y dX1_joinRow_1 ?_
    refine lv_iconst (v := 1) hx hb dX1_joinRow_4 (by decide) ?_
    refine lv_icmp_le (tgt := 81) hx hb dX1_joinRow_5 (by decide) (fun c5 => ?_) (fun c5 => ?_)
    · skip
      exact absurd c5 (by rw [e12]; exact nI_ge (a := 1) (by omega) (by omega))
    · skip
      refine lv_iconst (v := 0) hx hb dX1_joinRow_8 (by decide) ?_
      refine lv_istore_n (lv' := [(1, .int 0), (0, .ref o)]) hx hb dX1_joinRow_9 rfl hl (by decide) rfl (fun ls hl => ?_)
      refine lv_iconst (v := 0) hx hb dX1_joinRow_10 (by decide) ?_
      refine lv_istore_n (lv' := [(2, .int 0), (1, .int 0), (0, .ref o)]) hx hb dX1_joinRow_11 rfl hl (by decide) rfl (fun ls hl => ?_)
      refine x1_ps (O := out) (n := rs.length) S hA hlen ?_ rs.length rs [] out 0 α σ _ _ ls (Nat.le_refl _) rfl (Or.inr (Nat.zero_add _)) (Nat.le_refl _) hps ham e12 (Hl_nil _) (Hs_Hl h14) Y (lv_sub hl [2, 1, 0] rfl)
      intro σ1 H locs ls ham h14 Y hl
      refine lv_aload_n hx hb dX1_joinRow_73 rfl (lv_at hl 0 rfl) ?_
      refine lv_iload_n hx hb dX1_joinRow_74 rfl (lv_at hl 1 rfl) ?_
      refine x1_p12 S Y dX1_joinRow_75 (fun t1 H locs e_t1 Y => ?_)
      refine lv_goto (tgt := 0) hx hb dX1_joinRow_78 (by decide) ?_
      exact ih out α1 t1 H locs ls hmr (by omega) (Am_sc ham (by rw [e_t1]; exact Ex_up (by decide))) (by rw [e_t1]; rfl) (by rw [e_t1]; exact h14) Y (lv_sub hl [0] rfl)
set_option maxHeartbeats 4000000 in
set_option maxRecDepth 100000 in
/-- LeftistHeapsModel.joinRow -/
theorem c1_joinRow (l : Launch) (D : va_G) (dA : Nat → ClassId) (o : Nat) (q : Nat → Nat) (σ : CS) (α : CS) (rs : List Int32) (r : Int32) (α' : CS) (K : Nat) (ham : Am α σ) (h14 : Hl (σ 11) rs) (e12 : σ 12 0 = nI rs.length) (hlen : rs.length ≤ 60) (hmr : Mr K rs α r α') : gMi l D (wX1 dA o q) (tX1 dA) yX1_joinRow cX1_joinRow 3 (some .int) { frames := 2, cells := 0, slots := 0, locals := 51 } [.ref o] σ (fun r' σ' => r' = r ∧ Am α' σ') := by
  intro sz
  refine gEnter (own := RX1) (lv := [(0, .ref o)]) (wX1_g dA o q) (by decide) rfl (Nat.le_of_ble_eq_true rfl) rfl (fun p e s m below meth c ls S hA Y hl => ?_)
  have hx := S.1
  have hb := S.2.1
  refine x1_mr (r := r) S hA ?_ K rs α σ _ _ ls hmr hlen ham e12 h14 Y hl
  intro σ1 H locs ls ham h9 Y hl
  refine lv_aload_n hx hb dX1_joinRow_81 rfl (lv_at hl 0 rfl) ?_
  refine x1_g12 S Y dX1_joinRow_82 ?_
  refine lv_if_ne (tgt := 92) hx hb dX1_joinRow_85 (by decide) (fun c85 => ?_) (fun c85 => ?_)
  · skip
    refine lv_aload_n hx hb dX1_joinRow_92 rfl (lv_at hl 0 rfl) ?_
    refine x1_g11 S Y dX1_joinRow_93 ?_
    refine lv_iconst (v := 0) hx hb dX1_joinRow_96 (by decide) ?_
    refine x1_l11 S Y (vp0 (by decide) (by decide)) dX1_joinRow_97 ?_
    exact gIret S Y rfl (⟨by rcases h9 with h | h; exact absurd h.1 c85; exact h.2, ham⟩) dX1_joinRow_98
  · skip
    refine lv_iconst (v := (-1)) hx hb dX1_joinRow_88 (by decide) ?_
    refine lv_goto (tgt := 98) hx hb dX1_joinRow_89 (by decide) ?_
    exact gIret S Y rfl (⟨by rcases h9 with h | h; exact h.2.symm; exact absurd c85 h.1, ham⟩) dX1_joinRow_98
set_option maxHeartbeats 4000000 in
set_option maxRecDepth 100000 in
/-- LeftistHeapsModel.goThrough: what lies below goes onto the pile -/
theorem x1_pt {p : Program} {l : Launch} {e : Env} {s : State} {m : MethodId} {args : Array Value} {below : List Frame} {meth : Method} {c : Code} {Q : State → Prop} {D : va_G} {dA : Nat → ClassId} {o : Nat} {q : Nat → Nat} {A : Nat → Prop} {H0 : Heap} {σ0 : CS} {z lc rc : Int32} {st : List Int32} (S : gS p s m meth c cX1_goThrough 8 args RX1 none D (tX1 dA)) (hA : ∀ q, H0.size ≤ q → A q) (hst : st.length ≤ 59) (h13 : Hl (σ0 9) st.reverse) (kk : ∀ (σ : CS) (H : Heap) (locs : List Loc) (ls : Array Slot), Ex [9] σ0 σ → Hl (σ 9) (ph lc rc st).reverse → gP D (wX1 dA o q) A H0 σ H locs → lv_has ls 8 [(0, .ref o), (2, .int z), (3, .int (nI (ph lc rc st).length))] → W p l e { frames := 1, cells := 0, slots := 0, locals := 21 } s m args below meth c H locs 0 0 Q (F0 m 20 ls [])) (H : Heap) (locs : List Loc) (ls : Array Slot) (Y : gP D (wX1 dA o q) A H0 σ0 H locs) (hl : lv_has ls 8 [(0, .ref o), (2, .int z), (3, .int (nI st.length)), (6, .int lc), (7, .int rc)]) : W p l e { frames := 1, cells := 0, slots := 0, locals := 21 } s m args below meth c H locs 0 0 Q (F0 m 130 ls []) := by
  have hx := S.1
  have hb := S.2.1
  have h_n : vp_in (nI st.length) 64 := vp_in_nI (by omega) (by decide)
  have h_n1 : vp_in (nI (st.length + 1)) 64 := vp_in_nI (by omega) (by decide)
  refine lv_iload hx hb dX1_goThrough_130 (lv_at hl 4 rfl) ?_
  refine lv_if_lt (tgt := 146) hx hb dX1_goThrough_132 (by decide) (fun c132 => ?_) (fun c132 => ?_)
  · skip
    refine lv_iload hx hb dX1_goThrough_146 (lv_at hl 3 rfl) ?_
    refine lv_if_lt (tgt := 162) hx hb dX1_goThrough_148 (by decide) (fun c148 => ?_) (fun c148 => ?_)
    · skip
      refine lv_goto (tgt := 20) hx hb dX1_goThrough_162 (by decide) ?_
      have hph : ph lc rc st = st := by unfold ph; rw [if_pos c132, if_pos c148]; rfl
      exact kk σ0 H locs ls (Ex_rf _ _) (by rw [hph]; exact h13) Y (by rw [hph]; exact (lv_sub hl [0, 1, 2] rfl))
    · skip
      refine lv_aload_n hx hb dX1_goThrough_151 rfl (lv_at hl 0 rfl) ?_
      refine x1_g9 S Y dX1_goThrough_152 ?_
      refine lv_iload_n hx hb dX1_goThrough_155 rfl (lv_at hl 2 rfl) ?_
      refine lv_iload hx hb dX1_goThrough_156 (lv_at hl 3 rfl) ?_
      refine x1_s9 S Y h_n dX1_goThrough_158 (fun t2 H locs e_t2 Y => ?_)
      refine lv_iinc (v := nI (st.length + 1)) (lv' := [(3, .int (nI (st.length + 1))), (0, .ref o), (2, .int z), (6, .int lc), (7, .int rc)]) hx hb dX1_goThrough_159 hl (k := 2) rfl (nI_1 _) (by decide) rfl (fun ls hl => ?_)
      refine lv_goto (tgt := 20) hx hb dX1_goThrough_162 (by decide) ?_
      have hph : ph lc rc st = lc :: st := by unfold ph; rw [if_pos c132, if_neg c148]; rfl
      exact kk t2 H locs ls (by rw [e_t2]; exact Ex_up (by decide)) (by rw [hph]; rw [List.reverse_cons, e_t2]; show Hl (upd (σ0 9) (nI st.length).toNatClampNeg lc) _; rw [nI_clamp (by omega), ← List.length_reverse]; exact Hl_push h13 lc) Y (by rw [hph]; exact (lv_sub hl [1, 2, 0] rfl))
  · skip
    refine lv_aload_n hx hb dX1_goThrough_135 rfl (lv_at hl 0 rfl) ?_
    refine x1_g9 S Y dX1_goThrough_136 ?_
    refine lv_iload_n hx hb dX1_goThrough_139 rfl (lv_at hl 2 rfl) ?_
    refine lv_iload hx hb dX1_goThrough_140 (lv_at hl 4 rfl) ?_
    refine x1_s9 S Y h_n dX1_goThrough_142 (fun t1 H locs e_t1 Y => ?_)
    refine lv_iinc (v := nI (st.length + 1)) (lv' := [(3, .int (nI (st.length + 1))), (0, .ref o), (2, .int z), (6, .int lc), (7, .int rc)]) hx hb dX1_goThrough_143 hl (k := 2) rfl (nI_1 _) (by decide) rfl (fun ls hl => ?_)
    refine lv_iload hx hb dX1_goThrough_146 (lv_at hl 3 rfl) ?_
    refine lv_if_lt (tgt := 162) hx hb dX1_goThrough_148 (by decide) (fun c148 => ?_) (fun c148 => ?_)
    · skip
      refine lv_goto (tgt := 20) hx hb dX1_goThrough_162 (by decide) ?_
      have hph : ph lc rc st = rc :: st := by unfold ph; rw [if_neg c132, if_pos c148]; rfl
      exact kk t1 H locs ls (by rw [e_t1]; exact Ex_up (by decide)) (by rw [hph]; rw [List.reverse_cons, e_t1]; show Hl (upd (σ0 9) (nI st.length).toNatClampNeg rc) _; rw [nI_clamp (by omega), ← List.length_reverse]; exact Hl_push h13 rc) Y (by rw [hph]; exact (lv_sub hl [1, 2, 0] rfl))
    · skip
      refine lv_aload_n hx hb dX1_goThrough_151 rfl (lv_at hl 1 rfl) ?_
      refine x1_g9 S Y dX1_goThrough_152 ?_
      refine lv_iload_n hx hb dX1_goThrough_155 rfl (lv_at hl 0 rfl) ?_
      refine lv_iload hx hb dX1_goThrough_156 (lv_at hl 3 rfl) ?_
      refine x1_s9 S Y h_n1 dX1_goThrough_158 (fun t2 H locs e_t2 Y => ?_)
      refine lv_iinc (v := nI (st.length + 1 + 1)) (lv' := [(3, .int (nI (st.length + 1 + 1))), (0, .ref o), (2, .int z), (6, .int lc), (7, .int rc)]) hx hb dX1_goThrough_159 hl (k := 0) rfl (nI_1 _) (by decide) rfl (fun ls hl => ?_)
      refine lv_goto (tgt := 20) hx hb dX1_goThrough_162 (by decide) ?_
      have g1 : Hl (t1 9) (rc :: st).reverse := by rw [List.reverse_cons, e_t1]; show Hl (upd (σ0 9) (nI st.length).toNatClampNeg rc) _; rw [nI_clamp (by omega), ← List.length_reverse]; exact Hl_push h13 rc
      have hph : ph lc rc st = lc :: rc :: st := by unfold ph; rw [if_neg c132, if_neg c148]; rfl
      exact kk t2 H locs ls (Ex_tr (b := t1) (by rw [e_t1]; exact Ex_up (by decide)) (by rw [e_t2]; exact Ex_up (by decide))) (by rw [hph]; rw [List.reverse_cons, e_t2]; show Hl (upd (t1 9) (nI (st.length + 1)).toNatClampNeg lc) _; rw [nI_clamp (by omega), show st.length + 1 = (rc :: st).reverse.length by simp]; exact Hl_push g1 lc) Y (by rw [hph]; exact (lv_sub hl [1, 2, 0] rfl))
set_option maxHeartbeats 4000000 in
set_option maxRecDepth 100000 in
/-- LeftistHeapsModel.goThrough: its loop -/
theorem x1_pg {p : Program} {l : Launch} {e : Env} {s : State} {m : MethodId} {args : Array Value} {below : List Frame} {meth : Method} {c : Code} {Q : State → Prop} {D : va_G} {dA : Nat → ClassId} {o : Nat} {q : Nat → Nat} {A : Nat → Prop} {H0 : Heap} {α1 : CS} {z : Int32} {row1 : List Int32} (S : gS p s m meth c cX1_goThrough 8 args RX1 none D (tX1 dA)) (hA : ∀ q, H0.size ≤ q → A q) (kk : ∀ (σ : CS) (H : Heap) (locs : List Loc) (ls : Array Slot), Am α1 σ → Hl (σ 11) row1 → σ 12 0 = nI row1.length → gP D (wX1 dA o q) A H0 σ H locs → W p l e { frames := 1, cells := 0, slots := 0, locals := 21 } s m args below meth c H locs 0 0 Q (F0 m 165 ls [])) : ∀ (n : Nat) (stk row : List Int32) (α σ : CS) (H : Heap) (locs : List Loc) (ls : Array Slot), Pg z n stk row α row1 α1 → Am α σ → Hl (σ 9) stk.reverse → Hl (σ 11) row → σ 12 0 = nI row.length → gP D (wX1 dA o q) A H0 σ H locs → lv_has ls 8 [(0, .ref o), (2, .int z), (3, .int (nI stk.length))] → W p l e { frames := 1, cells := 0, slots := 0, locals := 21 } s m args below meth c H locs 0 0 Q (F0 m 20 ls []) := by
  have hx := S.1
  have hb := S.2.1
  intro n
  induction n with
  | zero =>
    intro stk row α σ H locs ls hpg ham h13 h14 e12 Y hl
    obtain ⟨h9, e8, e9⟩ := hpg
    subst h9
    refine lv_iload_n hx hb dX1_goThrough_20 rfl (lv_at hl 2 rfl) ?_
    refine lv_if_le (tgt := 165) hx hb dX1_goThrough_21 (by decide) (fun c21 => ?_) (fun c21 => ?_)
    · skip
      exact kk σ H locs ls (by rw [e9]; exact ham) (by rw [e8]; exact h14) (by rw [e8]; exact e12) Y
    · skip
      exact absurd (by decide +kernel : nI 0 ≤ 0) c21
  | succ n ih =>
    intro stk row α σ H locs ls hpg ham h13 h14 e12 Y hl
    obtain ⟨c0, st, h9, hl1, hl2, h_c, hpg⟩ := hpg
    subst h9
    have hst : st.length ≤ 59 := by simp only [List.length_cons] at hl1; omega
    have h_k : vp_in (nI st.length) 64 := vp_in_nI (by omega) (by decide)
    have h_r : vp_in (nI row.length) 64 := vp_in_nI (by omega) (by decide)
    rw [List.reverse_cons] at h13
    have h_t : σ 9 st.length = c0 := by have h9 := Hl_mid (a := st.reverse) (b := []) h13; rw [List.length_reverse] at h9; exact h9
    have h13 : Hl (σ 9) st.reverse := Hl_left h13
    have a1 := ham 1 (by decide)
    have a2 := ham 2 (by decide)
    have a4 := ham 4 (by decide)
    have a6 := ham 6 (by decide)
    rcases hpg with ⟨hs, hz, hpg⟩ | ⟨hs, hz, hpg⟩ | ⟨hs, hf, hpg⟩
    · have hs : σ 4 c0.toNatClampNeg = 1 := by rw [a4]; exact hs
      refine lv_iload_n hx hb dX1_goThrough_20 rfl (lv_at hl 2 rfl) ?_
      refine lv_if_le (tgt := 165) hx hb dX1_goThrough_21 (by decide) (fun c21 => ?_) (fun c21 => ?_)
      · skip
        exact absurd c21 (nI_nle (by simp) (by simp only [List.length_cons]; omega))
      · skip
        refine lv_iinc (v := nI st.length) (lv' := [(3, .int (nI st.length)), (0, .ref o), (2, .int z)]) hx hb dX1_goThrough_24 hl (k := 2) rfl (pk_m1 _) (by decide) rfl (fun ls hl => ?_)
        refine lv_aload_n hx hb dX1_goThrough_27 rfl (lv_at hl 1 rfl) ?_
        refine x1_g9 S Y dX1_goThrough_28 ?_
        refine lv_iload_n hx hb dX1_goThrough_31 rfl (lv_at hl 0 rfl) ?_
        refine x1_l9 S Y h_k dX1_goThrough_32 ?_
        refine lv_topi (fun v1 e_v1 => ?_)
        have e9 : c0 = v1 := by rw [e_v1, nI_clamp (by omega)]; exact h_t.symm
        subst e9
        refine lv_istore (lv' := [(4, .int c0), (3, .int (nI st.length)), (0, .ref o), (2, .int z)]) hx hb dX1_goThrough_33 hl (by decide) rfl (fun ls hl => ?_)
        refine lv_aload_n hx hb dX1_goThrough_35 rfl (lv_at hl 2 rfl) ?_
        refine x1_g4 S Y dX1_goThrough_36 ?_
        refine lv_iload hx hb dX1_goThrough_39 (lv_at hl 0 rfl) ?_
        refine x1_l4 S Y h_c dX1_goThrough_41 ?_
        refine lv_iconst (v := 1) hx hb dX1_goThrough_42 (by decide) ?_
        refine lv_icmp_ne (tgt := 50) hx hb dX1_goThrough_43 (by decide) (fun c43 => ?_) (fun c43 => ?_)
        · skip
          exact absurd hs c43
        · skip
          refine lv_iconst (v := 1) hx hb dX1_goThrough_46 (by decide) ?_
          refine lv_goto (tgt := 51) hx hb dX1_goThrough_47 (by decide) ?_
          refine lv_istore (lv' := [(5, .int 1), (4, .int c0), (3, .int (nI st.length)), (0, .ref o), (2, .int z)]) hx hb dX1_goThrough_51 hl (by decide) rfl (fun ls hl => ?_)
          refine lv_aload_n hx hb dX1_goThrough_53 rfl (lv_at hl 3 rfl) ?_
          refine x1_g1 S Y dX1_goThrough_54 ?_
          refine lv_iload hx hb dX1_goThrough_57 (lv_at hl 1 rfl) ?_
          refine x1_l1 S Y h_c dX1_goThrough_59 ?_
          refine lv_topi (fun lc e_lc => ?_)
          refine lv_istore (lv' := [(6, .int lc), (5, .int 1), (4, .int c0), (3, .int (nI st.length)), (0, .ref o), (2, .int z)]) hx hb dX1_goThrough_60 hl (by decide) rfl (fun ls hl => ?_)
          refine lv_aload_n hx hb dX1_goThrough_62 rfl (lv_at hl 4 rfl) ?_
          refine x1_g2 S Y dX1_goThrough_63 ?_
          refine lv_iload hx hb dX1_goThrough_66 (lv_at hl 2 rfl) ?_
          refine x1_l2 S Y h_c dX1_goThrough_68 ?_
          refine lv_topi (fun rc e_rc => ?_)
          refine lv_istore (lv' := [(7, .int rc), (6, .int lc), (5, .int 1), (4, .int c0), (3, .int (nI st.length)), (0, .ref o), (2, .int z)]) hx hb dX1_goThrough_69 hl (by decide) rfl (fun ls hl => ?_)
          refine lv_iload hx hb dX1_goThrough_71 (lv_at hl 2 rfl) ?_
          refine lv_if_eq (tgt := 100) hx hb dX1_goThrough_73 (by decide) (fun c73 => ?_) (fun c73 => ?_)
          · skip
            exact absurd c73 (by decide)
          · skip
            refine lv_aload_n hx hb dX1_goThrough_76 rfl (lv_at hl 5 rfl) ?_
            refine x1_g11 S Y dX1_goThrough_77 ?_
            refine lv_aload_n hx hb dX1_goThrough_80 rfl (lv_at hl 5 rfl) ?_
            refine x1_g12 S Y dX1_goThrough_81 ?_
            refine lv_topi (fun v2 e_v2 => ?_)
            have e9 : (nI row.length) = v2 := by rw [e_v2]; exact e12.symm
            subst e9
            refine lv_iload hx hb dX1_goThrough_84 (lv_at hl 3 rfl) ?_
            refine x1_s11 S Y h_r dX1_goThrough_86 (fun t1 H locs e_t1 Y => ?_)
            refine lv_aload_n hx hb dX1_goThrough_87 rfl (lv_at hl 5 rfl) ?_
            refine lv_dup hx hb dX1_goThrough_88 rfl ?_
            refine x1_g12 S Y dX1_goThrough_89 ?_
            refine lv_topi (fun v3 e_v3 => ?_)
            have e9 : (nI row.length) = v3 := by rw [e_v3, e_t1]; exact e12.symm
            subst e9
            refine lv_iconst (v := 1) hx hb dX1_goThrough_92 (by decide) ?_
            refine lv_iadd hx hb dX1_goThrough_93 ?_
            refine x1_p12 S Y dX1_goThrough_94 (fun t2 H locs e_t2 Y => ?_)
            have g14 : Hl (t2 11) (row ++ [c0]) := by rw [e_t2, e_t1]; show Hl (upd (σ 11) (nI row.length).toNatClampNeg c0) _; rw [nI_clamp (by omega)]; exact Hl_push h14 c0
            have g12 : t2 12 0 = nI (row ++ [c0]).length := by rw [e_t2, List.length_append, List.length_singleton]; exact nI_1 _
            have hE2 : Ex [11, 12] σ t2 := by rw [e_t2, e_t1]; exact Ex_tr (Ex_up (by decide)) (Ex_up (by decide))
            refine lv_goto (tgt := 106) hx hb dX1_goThrough_97 (by decide) ?_
            refine lv_iload hx hb dX1_goThrough_106 (lv_at hl 2 rfl) ?_
            refine lv_if_eq (tgt := 121) hx hb dX1_goThrough_108 (by decide) (fun c108 => ?_) (fun c108 => ?_)
            · skip
              exact absurd c108 (by decide)
            · skip
              refine lv_iload_n hx hb dX1_goThrough_111 rfl (lv_at hl 6 rfl) ?_
              refine lv_if_eq (tgt := 121) hx hb dX1_goThrough_112 (by decide) (fun c112 => ?_) (fun c112 => ?_)
              · skip
                refine lv_iload hx hb dX1_goThrough_121 (lv_at hl 2 rfl) ?_
                refine lv_if_eq (tgt := 130) hx hb dX1_goThrough_123 (by decide) (fun c123 => ?_) (fun c123 => ?_)
                · skip
                  exact absurd c123 (by decide)
                · skip
                  refine lv_iload_n hx hb dX1_goThrough_126 rfl (lv_at hl 6 rfl) ?_
                  refine lv_if_eq (tgt := 162) hx hb dX1_goThrough_127 (by decide) (fun c127 => ?_) (fun c127 => ?_)
                  · skip
                    refine lv_goto (tgt := 20) hx hb dX1_goThrough_162 (by decide) ?_
                    exact ih st (row ++ [c0]) α t2 H locs ls hpg (Am_sc ham (Ex_sub hE2 (by decide))) (by rw [hE2 9 (by decide)]; exact h13) g14 g12 Y (lv_sub hl [5, 6, 4] rfl)
                  · skip
                    exact absurd hz c127
              · skip
                exact absurd hz c112
    · have hs : σ 4 c0.toNatClampNeg = 1 := by rw [a4]; exact hs
      refine lv_iload_n hx hb dX1_goThrough_20 rfl (lv_at hl 2 rfl) ?_
      refine lv_if_le (tgt := 165) hx hb dX1_goThrough_21 (by decide) (fun c21 => ?_) (fun c21 => ?_)
      · skip
        exact absurd c21 (nI_nle (by simp) (by simp only [List.length_cons]; omega))
      · skip
        refine lv_iinc (v := nI st.length) (lv' := [(3, .int (nI st.length)), (0, .ref o), (2, .int z)]) hx hb dX1_goThrough_24 hl (k := 2) rfl (pk_m1 _) (by decide) rfl (fun ls hl => ?_)
        refine lv_aload_n hx hb dX1_goThrough_27 rfl (lv_at hl 1 rfl) ?_
        refine x1_g9 S Y dX1_goThrough_28 ?_
        refine lv_iload_n hx hb dX1_goThrough_31 rfl (lv_at hl 0 rfl) ?_
        refine x1_l9 S Y h_k dX1_goThrough_32 ?_
        refine lv_topi (fun v1 e_v1 => ?_)
        have e9 : c0 = v1 := by rw [e_v1, nI_clamp (by omega)]; exact h_t.symm
        subst e9
        refine lv_istore (lv' := [(4, .int c0), (3, .int (nI st.length)), (0, .ref o), (2, .int z)]) hx hb dX1_goThrough_33 hl (by decide) rfl (fun ls hl => ?_)
        refine lv_aload_n hx hb dX1_goThrough_35 rfl (lv_at hl 2 rfl) ?_
        refine x1_g4 S Y dX1_goThrough_36 ?_
        refine lv_iload hx hb dX1_goThrough_39 (lv_at hl 0 rfl) ?_
        refine x1_l4 S Y h_c dX1_goThrough_41 ?_
        refine lv_iconst (v := 1) hx hb dX1_goThrough_42 (by decide) ?_
        refine lv_icmp_ne (tgt := 50) hx hb dX1_goThrough_43 (by decide) (fun c43 => ?_) (fun c43 => ?_)
        · skip
          exact absurd hs c43
        · skip
          refine lv_iconst (v := 1) hx hb dX1_goThrough_46 (by decide) ?_
          refine lv_goto (tgt := 51) hx hb dX1_goThrough_47 (by decide) ?_
          refine lv_istore (lv' := [(5, .int 1), (4, .int c0), (3, .int (nI st.length)), (0, .ref o), (2, .int z)]) hx hb dX1_goThrough_51 hl (by decide) rfl (fun ls hl => ?_)
          refine lv_aload_n hx hb dX1_goThrough_53 rfl (lv_at hl 3 rfl) ?_
          refine x1_g1 S Y dX1_goThrough_54 ?_
          refine lv_iload hx hb dX1_goThrough_57 (lv_at hl 1 rfl) ?_
          refine x1_l1 S Y h_c dX1_goThrough_59 ?_
          refine lv_topi (fun lc e_lc => ?_)
          refine lv_istore (lv' := [(6, .int lc), (5, .int 1), (4, .int c0), (3, .int (nI st.length)), (0, .ref o), (2, .int z)]) hx hb dX1_goThrough_60 hl (by decide) rfl (fun ls hl => ?_)
          refine lv_aload_n hx hb dX1_goThrough_62 rfl (lv_at hl 4 rfl) ?_
          refine x1_g2 S Y dX1_goThrough_63 ?_
          refine lv_iload hx hb dX1_goThrough_66 (lv_at hl 2 rfl) ?_
          refine x1_l2 S Y h_c dX1_goThrough_68 ?_
          refine lv_topi (fun rc e_rc => ?_)
          refine lv_istore (lv' := [(7, .int rc), (6, .int lc), (5, .int 1), (4, .int c0), (3, .int (nI st.length)), (0, .ref o), (2, .int z)]) hx hb dX1_goThrough_69 hl (by decide) rfl (fun ls hl => ?_)
          refine lv_iload hx hb dX1_goThrough_71 (lv_at hl 2 rfl) ?_
          refine lv_if_eq (tgt := 100) hx hb dX1_goThrough_73 (by decide) (fun c73 => ?_) (fun c73 => ?_)
          · skip
            exact absurd c73 (by decide)
          · skip
            refine lv_aload_n hx hb dX1_goThrough_76 rfl (lv_at hl 5 rfl) ?_
            refine x1_g11 S Y dX1_goThrough_77 ?_
            refine lv_aload_n hx hb dX1_goThrough_80 rfl (lv_at hl 5 rfl) ?_
            refine x1_g12 S Y dX1_goThrough_81 ?_
            refine lv_topi (fun v2 e_v2 => ?_)
            have e9 : (nI row.length) = v2 := by rw [e_v2]; exact e12.symm
            subst e9
            refine lv_iload hx hb dX1_goThrough_84 (lv_at hl 3 rfl) ?_
            refine x1_s11 S Y h_r dX1_goThrough_86 (fun t1 H locs e_t1 Y => ?_)
            refine lv_aload_n hx hb dX1_goThrough_87 rfl (lv_at hl 5 rfl) ?_
            refine lv_dup hx hb dX1_goThrough_88 rfl ?_
            refine x1_g12 S Y dX1_goThrough_89 ?_
            refine lv_topi (fun v3 e_v3 => ?_)
            have e9 : (nI row.length) = v3 := by rw [e_v3, e_t1]; exact e12.symm
            subst e9
            refine lv_iconst (v := 1) hx hb dX1_goThrough_92 (by decide) ?_
            refine lv_iadd hx hb dX1_goThrough_93 ?_
            refine x1_p12 S Y dX1_goThrough_94 (fun t2 H locs e_t2 Y => ?_)
            have g14 : Hl (t2 11) (row ++ [c0]) := by rw [e_t2, e_t1]; show Hl (upd (σ 11) (nI row.length).toNatClampNeg c0) _; rw [nI_clamp (by omega)]; exact Hl_push h14 c0
            have g12 : t2 12 0 = nI (row ++ [c0]).length := by rw [e_t2, List.length_append, List.length_singleton]; exact nI_1 _
            have hE2 : Ex [11, 12] σ t2 := by rw [e_t2, e_t1]; exact Ex_tr (Ex_up (by decide)) (Ex_up (by decide))
            refine lv_goto (tgt := 106) hx hb dX1_goThrough_97 (by decide) ?_
            refine lv_iload hx hb dX1_goThrough_106 (lv_at hl 2 rfl) ?_
            refine lv_if_eq (tgt := 121) hx hb dX1_goThrough_108 (by decide) (fun c108 => ?_) (fun c108 => ?_)
            · skip
              exact absurd c108 (by decide)
            · skip
              refine lv_iload_n hx hb dX1_goThrough_111 rfl (lv_at hl 6 rfl) ?_
              refine lv_if_eq (tgt := 121) hx hb dX1_goThrough_112 (by decide) (fun c112 => ?_) (fun c112 => ?_)
              · skip
                exact absurd c112 hz
              · skip
                refine lv_aload_n hx hb dX1_goThrough_115 rfl (lv_at hl 5 rfl) ?_
                refine lv_iload hx hb dX1_goThrough_116 (lv_at hl 3 rfl) ?_
                refine gCallV (ci := 1) (As := [.int c0]) (rest := []) S (wX1_g dA o q) Y hA (c1_alone l D dA o q t2 c0 h_c) (cwV 1 S.2.2.2.2.1 (lw_V q272 q274 qs17 q26 q275) rfl rfl rfl (by decide +kernel) ⟨Nat.le_of_ble_eq_true rfl, Nat.le_of_ble_eq_true rfl⟩) rfl rfl rfl rfl hl.1 rfl (Nat.le_of_ble_eq_true rfl) dX1_goThrough_118 ⟨Nat.le_refl _, Nat.le_refl _⟩ (fun t3 H locs h_t3 Y => ?_)
                refine lv_iload hx hb dX1_goThrough_121 (lv_at hl 2 rfl) ?_
                refine lv_if_eq (tgt := 130) hx hb dX1_goThrough_123 (by decide) (fun c123 => ?_) (fun c123 => ?_)
                · skip
                  exact absurd c123 (by decide)
                · skip
                  refine lv_iload_n hx hb dX1_goThrough_126 rfl (lv_at hl 6 rfl) ?_
                  refine lv_if_eq (tgt := 162) hx hb dX1_goThrough_127 (by decide) (fun c127 => ?_) (fun c127 => ?_)
                  · skip
                    exact absurd c127 hz
                  · skip
                    refine x1_pt (σ0 := t3) (st := st) S hA hst (by rw [h_t3]; show Hl (t2 9) _; rw [hE2 9 (by decide)]; exact h13) ?_ H locs ls Y (lv_sub hl [5, 6, 4, 1, 0] rfl)
                    intro σ1 H locs ls hE1 h131 Y hl
                    exact ih _ (row ++ [c0]) (alone c0 α) σ1 H locs ls (by rw [e_lc, e_rc, a1, a2]; exact hpg) (Am_sc (by rw [h_t3]; exact Am_alone (Am_sc ham (Ex_sub hE2 (by decide))) c0) (Ex_sub hE1 (by decide))) h131 (by rw [hE1 11 (by decide), h_t3]; exact g14) (by rw [hE1 12 (by decide), h_t3]; exact g12) Y hl
    · have hs : σ 4 c0.toNatClampNeg = 2 := by rw [a4]; exact hs
      refine lv_iload_n hx hb dX1_goThrough_20 rfl (lv_at hl 2 rfl) ?_
      refine lv_if_le (tgt := 165) hx hb dX1_goThrough_21 (by decide) (fun c21 => ?_) (fun c21 => ?_)
      · skip
        exact absurd c21 (nI_nle (by simp) (by simp only [List.length_cons]; omega))
      · skip
        refine lv_iinc (v := nI st.length) (lv' := [(3, .int (nI st.length)), (0, .ref o), (2, .int z)]) hx hb dX1_goThrough_24 hl (k := 2) rfl (pk_m1 _) (by decide) rfl (fun ls hl => ?_)
        refine lv_aload_n hx hb dX1_goThrough_27 rfl (lv_at hl 1 rfl) ?_
        refine x1_g9 S Y dX1_goThrough_28 ?_
        refine lv_iload_n hx hb dX1_goThrough_31 rfl (lv_at hl 0 rfl) ?_
        refine x1_l9 S Y h_k dX1_goThrough_32 ?_
        refine lv_topi (fun v1 e_v1 => ?_)
        have e9 : c0 = v1 := by rw [e_v1, nI_clamp (by omega)]; exact h_t.symm
        subst e9
        refine lv_istore (lv' := [(4, .int c0), (3, .int (nI st.length)), (0, .ref o), (2, .int z)]) hx hb dX1_goThrough_33 hl (by decide) rfl (fun ls hl => ?_)
        refine lv_aload_n hx hb dX1_goThrough_35 rfl (lv_at hl 2 rfl) ?_
        refine x1_g4 S Y dX1_goThrough_36 ?_
        refine lv_iload hx hb dX1_goThrough_39 (lv_at hl 0 rfl) ?_
        refine x1_l4 S Y h_c dX1_goThrough_41 ?_
        refine lv_iconst (v := 1) hx hb dX1_goThrough_42 (by decide) ?_
        refine lv_icmp_ne (tgt := 50) hx hb dX1_goThrough_43 (by decide) (fun c43 => ?_) (fun c43 => ?_)
        · skip
          refine lv_iconst (v := 0) hx hb dX1_goThrough_50 (by decide) ?_
          refine lv_istore (lv' := [(5, .int 0), (4, .int c0), (3, .int (nI st.length)), (0, .ref o), (2, .int z)]) hx hb dX1_goThrough_51 hl (by decide) rfl (fun ls hl => ?_)
          refine lv_aload_n hx hb dX1_goThrough_53 rfl (lv_at hl 3 rfl) ?_
          refine x1_g1 S Y dX1_goThrough_54 ?_
          refine lv_iload hx hb dX1_goThrough_57 (lv_at hl 1 rfl) ?_
          refine x1_l1 S Y h_c dX1_goThrough_59 ?_
          refine lv_topi (fun lc e_lc => ?_)
          refine lv_istore (lv' := [(6, .int lc), (5, .int 0), (4, .int c0), (3, .int (nI st.length)), (0, .ref o), (2, .int z)]) hx hb dX1_goThrough_60 hl (by decide) rfl (fun ls hl => ?_)
          refine lv_aload_n hx hb dX1_goThrough_62 rfl (lv_at hl 4 rfl) ?_
          refine x1_g2 S Y dX1_goThrough_63 ?_
          refine lv_iload hx hb dX1_goThrough_66 (lv_at hl 2 rfl) ?_
          refine x1_l2 S Y h_c dX1_goThrough_68 ?_
          refine lv_topi (fun rc e_rc => ?_)
          refine lv_istore (lv' := [(7, .int rc), (6, .int lc), (5, .int 0), (4, .int c0), (3, .int (nI st.length)), (0, .ref o), (2, .int z)]) hx hb dX1_goThrough_69 hl (by decide) rfl (fun ls hl => ?_)
          refine lv_iload hx hb dX1_goThrough_71 (lv_at hl 2 rfl) ?_
          refine lv_if_eq (tgt := 100) hx hb dX1_goThrough_73 (by decide) (fun c73 => ?_) (fun c73 => ?_)
          · skip
            refine lv_aload_n hx hb dX1_goThrough_100 rfl (lv_at hl 5 rfl) ?_
            refine lv_iload hx hb dX1_goThrough_101 (lv_at hl 3 rfl) ?_
            refine gCallV (ci := 1) (As := [.int c0]) (rest := []) S (wX1_g dA o q) Y hA (c1_letGo l D dA o q σ c0 h_c (by rw [a6]; exact hf)) (cwV 1 S.2.2.2.2.1 (lw_V q268 q270 qs16 q26 q271) rfl rfl rfl (by decide +kernel) ⟨Nat.le_of_ble_eq_true rfl, Nat.le_of_ble_eq_true rfl⟩) rfl rfl rfl rfl hl.1 rfl (Nat.le_of_ble_eq_true rfl) dX1_goThrough_103 ⟨Nat.le_refl _, Nat.le_refl _⟩ (fun t3 H locs h_t3 Y => ?_)
            refine lv_iload hx hb dX1_goThrough_106 (lv_at hl 2 rfl) ?_
            refine lv_if_eq (tgt := 121) hx hb dX1_goThrough_108 (by decide) (fun c108 => ?_) (fun c108 => ?_)
            · skip
              refine lv_iload hx hb dX1_goThrough_121 (lv_at hl 2 rfl) ?_
              refine lv_if_eq (tgt := 130) hx hb dX1_goThrough_123 (by decide) (fun c123 => ?_) (fun c123 => ?_)
              · skip
                refine x1_pt (σ0 := t3) (st := st) S hA hst (by rw [h_t3]; exact h13) ?_ H locs ls Y (lv_sub hl [5, 6, 4, 1, 0] rfl)
                intro σ1 H locs ls hE1 h131 Y hl
                exact ih _ row (letgo c0 α) σ1 H locs ls (by rw [e_lc, e_rc, a1, a2]; exact hpg) (Am_sc (by rw [h_t3]; exact Am_letgo ham c0) (Ex_sub hE1 (by decide))) h131 (by rw [hE1 11 (by decide), h_t3]; exact h14) (by rw [hE1 12 (by decide), h_t3]; exact e12) Y hl
              · skip
                exact absurd rfl c123
            · skip
              exact absurd rfl c108
          · skip
            exact absurd rfl c73
        · skip
          exact absurd (hs.symm.trans c43) (by decide)
set_option maxHeartbeats 4000000 in
set_option maxRecDepth 100000 in
/-- LeftistHeapsModel.goThrough -/
theorem c1_goThrough (l : Launch) (D : va_G) (dA : Nat → ClassId) (o : Nat) (q : Nat → Nat) (σ : CS) (α : CS) (top z : Int32) (n : Nat) (row : List Int32) (α1 : CS) (ham : Am α σ) (hpg : Pg z n (if top < 0 then [] else [top]) [] α row α1) : gMv l D (wX1 dA o q) (tX1 dA) yX1_goThrough cX1_goThrough 8 none { frames := 1, cells := 0, slots := 0, locals := 21 } [.ref o, .int top, .int z] σ (fun σ' => Am α1 σ' ∧ Hl (σ' 11) row ∧ σ' 12 0 = nI row.length) := by
  intro sz
  refine gEnter (own := RX1) (lv := [(0, .ref o), (1, .int top), (2, .int z)]) (wX1_g dA o q) (by decide) rfl (Nat.le_of_ble_eq_true rfl) rfl (fun p e s m below meth c ls S hA Y hl => ?_)
  have hx := S.1
  have hb := S.2.1
  refine lv_aload_n hx hb dX1_goThrough_0 rfl (lv_at hl 0 rfl) ?_
  refine lv_iconst (v := 0) hx hb dX1_goThrough_1 (by decide) ?_
  refine x1_p12 S Y dX1_goThrough_2 (fun t1 H locs e_t1 Y => ?_)
  refine lv_iconst (v := 0) hx hb dX1_goThrough_5 (by decide) ?_
  refine lv_istore_n (lv' := [(3, .int 0), (0, .ref o), (1, .int top), (2, .int z)]) hx hb dX1_goThrough_6 rfl hl (by decide) rfl (fun ls hl => ?_)
  refine lv_iload_n hx hb dX1_goThrough_7 rfl (lv_at hl 2 rfl) ?_
  refine lv_if_lt (tgt := 20) hx hb dX1_goThrough_8 (by decide) (fun c8 => ?_) (fun c8 => ?_)
  · skip
    refine x1_pg (α1 := α1) (z := z) (row1 := row) S hA ?_ n [] [] α t1 _ _ ls (by rw [if_pos c8] at hpg; exact hpg) (Am_sc ham (by rw [e_t1]; exact Ex_up (by decide))) (Hl_nil _) (Hl_nil _) (by rw [e_t1]; rfl) Y (lv_sub hl [1, 3, 0] rfl)
    intro σ1 H locs ls ham1 h141 e121 Y
    exact gVret S Y (⟨ham1, h141, e121⟩) dX1_goThrough_165
  · skip
    refine lv_aload_n hx hb dX1_goThrough_11 rfl (lv_at hl 1 rfl) ?_
    refine x1_g9 S Y dX1_goThrough_12 ?_
    refine lv_iconst (v := 0) hx hb dX1_goThrough_15 (by decide) ?_
    refine lv_iload_n hx hb dX1_goThrough_16 rfl (lv_at hl 2 rfl) ?_
    refine x1_s9 S Y (vp0 (by decide) (by decide)) dX1_goThrough_17 (fun t2 H locs e_t2 Y => ?_)
    refine lv_iconst (v := 1) hx hb dX1_goThrough_18 (by decide) ?_
    refine lv_istore_n (lv' := [(3, .int 1), (0, .ref o), (1, .int top), (2, .int z)]) hx hb dX1_goThrough_19 rfl hl (by decide) rfl (fun ls hl => ?_)
    refine x1_pg (α1 := α1) (z := z) (row1 := row) S hA ?_ n [top] [] α t2 _ _ ls (by rw [if_neg c8] at hpg; exact hpg) (Am_sc ham (by rw [e_t2, e_t1]; exact Ex_tr (Ex_up (by decide)) (Ex_up (by decide)))) (by rw [e_t2]; exact Hl_push (l := []) (Hl_nil _) top) (Hl_nil _) (by rw [e_t2, e_t1]; rfl) Y (lv_sub hl [1, 3, 0] rfl)
    intro σ1 H locs ls ham1 h141 e121 Y
    exact gVret S Y (⟨ham1, h141, e121⟩) dX1_goThrough_165
set_option maxHeartbeats 4000000 in
set_option maxRecDepth 100000 in
/-- LeftistHeapsModel.clean -/
theorem c1_clean (l : Launch) (D : va_G) (dA : Nat → ClassId) (o : Nat) (q : Nat → Nat) (σ : CS) (α : CS) (h z r : Int32) (α1 : CS) (ham : Am α σ) (h_h : vp_in h 10) (hpu : Pu α (α 7 h.toNatClampNeg) z r α1) : gMv l D (wX1 dA o q) (tX1 dA) yX1_clean cX1_clean 3 none { frames := 3, cells := 0, slots := 0, locals := 73 } [.ref o, .int h, .int z] σ (fun σ' => Am (va_up α1 7 (upd (α1 7) h.toNatClampNeg r)) σ') := by
  intro sz
  refine gEnter (own := RX1) (lv := [(0, .ref o), (1, .int h), (2, .int z)]) (wX1_g dA o q) (by decide) rfl (Nat.le_of_ble_eq_true rfl) rfl (fun p e s m below meth c ls S hA Y hl => ?_)
  have hx := S.1
  have hb := S.2.1
  obtain ⟨h_p, hB1, hB2, n, row, α2, K, hpg, hlen, hmr⟩ := hpu
  refine lv_aload_n hx hb dX1_clean_0 rfl (lv_at hl 0 rfl) ?_
  refine lv_aload_n hx hb dX1_clean_1 rfl (lv_at hl 0 rfl) ?_
  refine x1_g7 S Y dX1_clean_2 ?_
  refine lv_iload_n hx hb dX1_clean_5 rfl (lv_at hl 1 rfl) ?_
  refine x1_l7 S Y h_h dX1_clean_6 ?_
  refine lv_topi (fun v1 e_v1 => ?_)
  have e9 : (α 7 h.toNatClampNeg) = v1 := by rw [e_v1, ham 7 (by decide)]
  subst e9
  refine lv_iload_n hx hb dX1_clean_7 rfl (lv_at hl 2 rfl) ?_
  refine gCallV (ci := 1) (As := [.int (α 7 h.toNatClampNeg), .int z]) (rest := []) S (wX1_g dA o q) Y hA (c1_goThrough l D dA o q σ α (α 7 h.toNatClampNeg) z n row α2 ham hpg) (cwV 2 S.2.2.2.2.1 (lw_V q264 q266 qs15 q26 q267) rfl rfl rfl (by decide +kernel) ⟨Nat.le_of_ble_eq_true rfl, Nat.le_of_ble_eq_true rfl⟩) rfl rfl rfl rfl hl.1 rfl (Nat.le_of_ble_eq_true rfl) dX1_clean_8 ⟨Nat.le_refl _, Nat.le_refl _⟩ (fun t1 H locs h_t1 Y => ?_)
  refine lv_aload_n hx hb dX1_clean_11 rfl (lv_at hl 0 rfl) ?_
  refine x1_g7 S Y dX1_clean_12 ?_
  refine lv_iload_n hx hb dX1_clean_15 rfl (lv_at hl 1 rfl) ?_
  refine lv_aload_n hx hb dX1_clean_16 rfl (lv_at hl 0 rfl) ?_
  refine gCallI (ci := 1) (As := []) (rest := [.int h, .ref (q 7)]) S (wX1_g dA o q) Y hA (c1_joinRow l D dA o q t1 α2 row r α1 K h_t1.1 h_t1.2.1 h_t1.2.2 hlen hmr) (cwV 0 S.2.2.2.2.1 (lw_V q276 q278 qs18 q26 q279) rfl rfl rfl (by decide +kernel) ⟨Nat.le_of_ble_eq_true rfl, Nat.le_of_ble_eq_true rfl⟩) rfl rfl rfl rfl hl.1 rfl (Nat.le_of_ble_eq_true rfl) dX1_clean_17 ⟨Nat.le_refl _, Nat.le_refl _⟩ (fun r2 t2 H locs h_t2 Y => ?_)
  obtain ⟨e_r2, ham2⟩ := h_t2
  rw [e_r2]
  refine x1_s7 S Y h_h dX1_clean_20 (fun t3 H locs e_t3 Y => ?_)
  exact gVret S Y (by rw [e_t3]; exact Am_top ham2 _ r) dX1_clean_21
set_option maxHeartbeats 4000000 in
set_option maxRecDepth 100000 in
/-- LeftistHeapsModel.clearAll: its loop -/
theorem x1_cl {p : Program} {l : Launch} {e : Env} {s : State} {m : MethodId} {args : Array Value} {below : List Frame} {meth : Method} {c : Code} {Q : State → Prop} {D : va_G} {dA : Nat → ClassId} {o : Nat} {q : Nat → Nat} {A : Nat → Prop} {H0 : Heap} {α' : CS} {nh : Nat} (S : gS p s m meth c cX1_clearAll 2 args RX1 none D (tX1 dA)) (hA : ∀ q, H0.size ≤ q → A q) (hnh : nh ≤ 10) (kk : ∀ (σ : CS) (H : Heap) (locs : List Loc) (ls : Array Slot), Am α' σ → gP D (wX1 dA o q) A H0 σ H locs → W p l e { frames := 4, cells := 0, slots := 0, locals := 95 } s m args below meth c H locs 0 0 Q (F0 m 22 ls [])) : ∀ (n h : Nat) (α σ : CS) (H : Heap) (locs : List Loc) (ls : Array Slot), Cl n h α α' → h + n = nh → α 8 0 = nI nh → Am α σ → gP D (wX1 dA o q) A H0 σ H locs → lv_has ls 2 [(0, .ref o), (1, .int (nI h))] → W p l e { frames := 4, cells := 0, slots := 0, locals := 95 } s m args below meth c H locs 0 0 Q (F0 m 2 ls []) := by
  have hx := S.1
  have hb := S.2.1
  intro n
  induction n with
  | zero =>
    intro h α σ H locs ls hcl hh e8 ham Y hl
    have a8 := ham 8 (by decide)
    refine lv_iload_n hx hb dX1_clearAll_2 rfl (lv_at hl 1 rfl) ?_
    refine lv_aload_n hx hb dX1_clearAll_3 rfl (lv_at hl 0 rfl) ?_
    refine x1_g8 S Y dX1_clearAll_4 ?_
    refine lv_icmp_ge (tgt := 22) hx hb dX1_clearAll_7 (by decide) (fun c7 => ?_) (fun c7 => ?_)
    · skip
      exact kk σ H locs ls (by rw [show α' = α from hcl]; exact ham) Y
    · skip
      exact absurd (by rw [a8, e8]; exact nI_le (by omega) (by omega)) c7
  | succ n ih =>
    intro h α σ H locs ls hcl hh e8 ham Y hl
    obtain ⟨r, α1, hpu, hcl⟩ := hcl
    have a8 := ham 8 (by decide)
    have h_h : vp_in (nI h) 10 := vp_in_nI (by omega) (by decide)
    refine lv_iload_n hx hb dX1_clearAll_2 rfl (lv_at hl 1 rfl) ?_
    refine lv_aload_n hx hb dX1_clearAll_3 rfl (lv_at hl 0 rfl) ?_
    refine x1_g8 S Y dX1_clearAll_4 ?_
    refine lv_icmp_ge (tgt := 22) hx hb dX1_clearAll_7 (by decide) (fun c7 => ?_) (fun c7 => ?_)
    · skip
      exact absurd c7 (by rw [a8, e8]; exact nI_ge (by omega) (by omega))
    · skip
      refine lv_aload_n hx hb dX1_clearAll_10 rfl (lv_at hl 0 rfl) ?_
      refine lv_iload_n hx hb dX1_clearAll_11 rfl (lv_at hl 1 rfl) ?_
      refine lv_iconst (v := 1) hx hb dX1_clearAll_12 (by decide) ?_
      refine gCallV (ci := 1) (As := [.int (nI h), .int 1]) (rest := []) S (wX1_g dA o q) Y hA (c1_clean l D dA o q σ α (nI h) 1 r α1 ham h_h (by rw [nI_clamp (by omega)]; exact hpu)) (cwV 2 S.2.2.2.2.1 (lw_V q260 q262 qs14 q26 q263) rfl rfl rfl (by decide +kernel) ⟨Nat.le_of_ble_eq_true rfl, Nat.le_of_ble_eq_true rfl⟩) rfl rfl rfl rfl hl.1 rfl (Nat.le_of_ble_eq_true rfl) dX1_clearAll_13 ⟨Nat.le_refl _, Nat.le_refl _⟩ (fun t1 H locs h_t1 Y => ?_)
      rw [nI_clamp (by omega)] at h_t1
      refine lv_iinc (v := nI (h + 1)) (lv' := [(1, .int (nI (h + 1))), (0, .ref o)]) hx hb dX1_clearAll_16 hl (k := 1) rfl (nI_1 _) (by decide) rfl (fun ls hl => ?_)
      refine lv_goto (tgt := 2) hx hb dX1_clearAll_19 (by decide) ?_
      exact ih (h + 1) (va_up α1 7 (upd (α1 7) h r)) t1 H locs ls hcl (by omega) (by show α1 8 0 = _; rw [Pu_ex hpu (Or.inr (Or.inr rfl))]; exact e8) h_t1 Y (lv_sub hl [1, 0] rfl)
set_option maxHeartbeats 4000000 in
set_option maxRecDepth 100000 in
/-- LeftistHeapsModel.clearAll -/
theorem c1_clearAll (l : Launch) (D : va_G) (dA : Nat → ClassId) (o : Nat) (q : Nat → Nat) (σ : CS) (α α' : CS) (nh : Nat) (hnh : nh ≤ 10) (e8 : α 8 0 = nI nh) (ham : Am α σ) (hcl : Cl nh 0 α α') : gMv l D (wX1 dA o q) (tX1 dA) yX1_clearAll cX1_clearAll 2 none { frames := 4, cells := 0, slots := 0, locals := 95 } [.ref o] σ (fun σ' => Am α' σ') := by
  intro sz
  refine gEnter (own := RX1) (lv := [(0, .ref o)]) (wX1_g dA o q) (by decide) rfl (Nat.le_of_ble_eq_true rfl) rfl (fun p e s m below meth c ls S hA Y hl => ?_)
  have hx := S.1
  have hb := S.2.1
  refine lv_iconst (v := 0) hx hb dX1_clearAll_0 (by decide) ?_
  refine lv_istore_n (lv' := [(1, .int 0), (0, .ref o)]) hx hb dX1_clearAll_1 rfl hl (by decide) rfl (fun ls hl => ?_)
  refine x1_cl (nh := nh) S hA hnh ?_ nh 0 α σ _ _ ls hcl (Nat.zero_add _) e8 ham Y (lv_sub hl [1, 0] rfl)
  intro σ1 H locs ls ham Y
  exact gVret S Y ham dX1_clearAll_22
end
section
theorem ins_am {α σ t2 t3 t4 : CS} {k r : Int32} (h : Am α σ) (e2 : t2 = va_up σ 6 (fun _ => σ 6 0 - 1)) (e3 : t3 = va_up t2 4 (upd (t2 4) r.toNatClampNeg 1)) (e4 : t4 = va_up t3 0 (upd (t3 0) r.toNatClampNeg k)) : Am (take r k α) (alone r t4) := by
  refine Am_alone (fun j hj => ?_) r
  have h2 : Am (va_up α 6 (fun _ => α 6 0 - 1)) t2 := by rw [e2, h 6 (by decide)]; exact Am_upd h 6 _
  rw [e4, e3]
  by_cases j0 : j = 0
  · rw [j0, up_s, up_n (by decide), up_n (by decide), up_s, h2 0 (by decide)]; rfl
  by_cases j4 : j = 4
  · rw [j4, up_n (by decide), up_s, up_s, h2 4 (by decide)]; rfl
  rw [up_n j0, up_n j4, up_n j4, up_n j0]
  exact h2 j hj
end
section
set_option maxHeartbeats 4000000 in
set_option maxRecDepth 100000 in
/-- LeftistHeapsModel.look: what lies below goes onto the pile -/
theorem x1_lt {p : Program} {l : Launch} {e : Env} {s : State} {m : MethodId} {args : Array Value} {below : List Frame} {meth : Method} {c : Code} {Q : State → Prop} {D : va_G} {dA : Nat → ClassId} {o : Nat} {q : Nat → Nat} {A : Nat → Prop} {H0 : Heap} {σ0 : CS} {x2 x3 c0 : Int32} {st : List Int32} (S : gS p s m meth c cX1_look 6 args RX1 (some .int) D (tX1 dA)) (hA : ∀ q, H0.size ≤ q → A q) (h_c : vp_in c0 60) (hst : st.length ≤ 59) (h13 : Hl (σ0 9) st.reverse) (kk : ∀ (σ : CS) (H : Heap) (locs : List Loc) (ls : Array Slot), Ex [9] σ0 σ → Hl (σ 9) (ph (σ0 2 c0.toNatClampNeg) (σ0 1 c0.toNatClampNeg) st).reverse → gP D (wX1 dA o q) A H0 σ H locs → lv_has ls 6 [(0, .ref o), (2, .int x2), (3, .int x3), (4, .int (nI (ph (σ0 2 c0.toNatClampNeg) (σ0 1 c0.toNatClampNeg) st).length))] → W p l e { frames := 0, cells := 0, slots := 0, locals := 0 } s m args below meth c H locs 0 0 Q (F0 m 29 ls [])) (H : Heap) (locs : List Loc) (ls : Array Slot) (Y : gP D (wX1 dA o q) A H0 σ0 H locs) (hl : lv_has ls 6 [(0, .ref o), (2, .int x2), (3, .int x3), (4, .int (nI st.length)), (5, .int c0)]) : W p l e { frames := 0, cells := 0, slots := 0, locals := 0 } s m args below meth c H locs 0 0 Q (F0 m 73 ls []) := by
  have hx := S.1
  have hb := S.2.1
  have h_n : vp_in (nI st.length) 64 := vp_in_nI (by omega) (by decide)
  have h_n1 : vp_in (nI (st.length + 1)) 64 := vp_in_nI (by omega) (by decide)
  refine lv_aload_n hx hb dX1_look_73 rfl (lv_at hl 0 rfl) ?_
  refine x1_g1 S Y dX1_look_74 ?_
  refine lv_iload hx hb dX1_look_77 (lv_at hl 4 rfl) ?_
  refine x1_l1 S Y h_c dX1_look_79 ?_
  refine lv_if_lt (tgt := 100) hx hb dX1_look_80 (by decide) (fun c80 => ?_) (fun c80 => ?_)
  · skip
    refine lv_aload_n hx hb dX1_look_100 rfl (lv_at hl 0 rfl) ?_
    refine x1_g2 S Y dX1_look_101 ?_
    refine lv_iload hx hb dX1_look_104 (lv_at hl 4 rfl) ?_
    refine x1_l2 S Y h_c dX1_look_106 ?_
    refine lv_if_lt (tgt := 127) hx hb dX1_look_107 (by decide) (fun c107 => ?_) (fun c107 => ?_)
    · skip
      refine lv_goto (tgt := 29) hx hb dX1_look_127 (by decide) ?_
      have hph : ph (σ0 2 c0.toNatClampNeg) (σ0 1 c0.toNatClampNeg) st = st := by unfold ph; rw [if_pos c107, if_pos c80]; rfl
      exact kk σ0 H locs ls (Ex_rf _ _) (by rw [hph]; exact h13) Y (by rw [hph]; exact (lv_sub hl [0, 1, 2, 3] rfl))
    · skip
      refine lv_aload_n hx hb dX1_look_110 rfl (lv_at hl 0 rfl) ?_
      refine x1_g9 S Y dX1_look_111 ?_
      refine lv_iload hx hb dX1_look_114 (lv_at hl 3 rfl) ?_
      refine lv_aload_n hx hb dX1_look_116 rfl (lv_at hl 0 rfl) ?_
      refine x1_g2 S Y dX1_look_117 ?_
      refine lv_iload hx hb dX1_look_120 (lv_at hl 4 rfl) ?_
      refine x1_l2 S Y h_c dX1_look_122 ?_
      refine x1_s9 S Y h_n dX1_look_123 (fun t2 H locs e_t2 Y => ?_)
      refine lv_iinc (v := nI (st.length + 1)) (lv' := [(4, .int (nI (st.length + 1))), (0, .ref o), (2, .int x2), (3, .int x3), (5, .int c0)]) hx hb dX1_look_124 hl (k := 3) rfl (nI_1 _) (by decide) rfl (fun ls hl => ?_)
      refine lv_goto (tgt := 29) hx hb dX1_look_127 (by decide) ?_
      have hph : ph (σ0 2 c0.toNatClampNeg) (σ0 1 c0.toNatClampNeg) st = (σ0 2 c0.toNatClampNeg) :: st := by unfold ph; rw [if_neg c107, if_pos c80]; rfl
      exact kk t2 H locs ls (by rw [e_t2]; exact Ex_up (by decide)) (by rw [hph]; rw [List.reverse_cons, e_t2]; show Hl (upd (σ0 9) (nI st.length).toNatClampNeg (σ0 2 c0.toNatClampNeg)) _; rw [nI_clamp (by omega), ← List.length_reverse]; exact Hl_push h13 _) Y (by rw [hph]; exact (lv_sub hl [1, 2, 3, 0] rfl))
  · skip
    refine lv_aload_n hx hb dX1_look_83 rfl (lv_at hl 0 rfl) ?_
    refine x1_g9 S Y dX1_look_84 ?_
    refine lv_iload hx hb dX1_look_87 (lv_at hl 3 rfl) ?_
    refine lv_aload_n hx hb dX1_look_89 rfl (lv_at hl 0 rfl) ?_
    refine x1_g1 S Y dX1_look_90 ?_
    refine lv_iload hx hb dX1_look_93 (lv_at hl 4 rfl) ?_
    refine x1_l1 S Y h_c dX1_look_95 ?_
    refine x1_s9 S Y h_n dX1_look_96 (fun t1 H locs e_t1 Y => ?_)
    refine lv_iinc (v := nI (st.length + 1)) (lv' := [(4, .int (nI (st.length + 1))), (0, .ref o), (2, .int x2), (3, .int x3), (5, .int c0)]) hx hb dX1_look_97 hl (k := 3) rfl (nI_1 _) (by decide) rfl (fun ls hl => ?_)
    refine lv_aload_n hx hb dX1_look_100 rfl (lv_at hl 1 rfl) ?_
    refine x1_g2 S Y dX1_look_101 ?_
    refine lv_iload hx hb dX1_look_104 (lv_at hl 4 rfl) ?_
    refine x1_l2 S Y h_c dX1_look_106 ?_
    refine lv_topi (fun w1 e_w1 => ?_)
    have e9 : (σ0 2 c0.toNatClampNeg) = w1 := by rw [e_w1, e_t1]; rfl
    subst e9
    refine lv_if_lt (tgt := 127) hx hb dX1_look_107 (by decide) (fun c107 => ?_) (fun c107 => ?_)
    · skip
      refine lv_goto (tgt := 29) hx hb dX1_look_127 (by decide) ?_
      have hph : ph (σ0 2 c0.toNatClampNeg) (σ0 1 c0.toNatClampNeg) st = (σ0 1 c0.toNatClampNeg) :: st := by unfold ph; rw [if_pos c107, if_neg c80]; rfl
      exact kk t1 H locs ls (by rw [e_t1]; exact Ex_up (by decide)) (by rw [hph]; rw [List.reverse_cons, e_t1]; show Hl (upd (σ0 9) (nI st.length).toNatClampNeg (σ0 1 c0.toNatClampNeg)) _; rw [nI_clamp (by omega), ← List.length_reverse]; exact Hl_push h13 _) Y (by rw [hph]; exact (lv_sub hl [1, 2, 3, 0] rfl))
    · skip
      refine lv_aload_n hx hb dX1_look_110 rfl (lv_at hl 1 rfl) ?_
      refine x1_g9 S Y dX1_look_111 ?_
      refine lv_iload hx hb dX1_look_114 (lv_at hl 0 rfl) ?_
      refine lv_aload_n hx hb dX1_look_116 rfl (lv_at hl 1 rfl) ?_
      refine x1_g2 S Y dX1_look_117 ?_
      refine lv_iload hx hb dX1_look_120 (lv_at hl 4 rfl) ?_
      refine x1_l2 S Y h_c dX1_look_122 ?_
      refine lv_topi (fun w2 e_w2 => ?_)
      have e9 : (σ0 2 c0.toNatClampNeg) = w2 := by rw [e_w2, e_t1]; rfl
      subst e9
      refine x1_s9 S Y h_n1 dX1_look_123 (fun t2 H locs e_t2 Y => ?_)
      refine lv_iinc (v := nI (st.length + 1 + 1)) (lv' := [(4, .int (nI (st.length + 1 + 1))), (0, .ref o), (2, .int x2), (3, .int x3), (5, .int c0)]) hx hb dX1_look_124 hl (k := 0) rfl (nI_1 _) (by decide) rfl (fun ls hl => ?_)
      refine lv_goto (tgt := 29) hx hb dX1_look_127 (by decide) ?_
      have g1 : Hl (t1 9) ((σ0 1 c0.toNatClampNeg) :: st).reverse := by rw [List.reverse_cons, e_t1]; show Hl (upd (σ0 9) (nI st.length).toNatClampNeg (σ0 1 c0.toNatClampNeg)) _; rw [nI_clamp (by omega), ← List.length_reverse]; exact Hl_push h13 _
      have hph : ph (σ0 2 c0.toNatClampNeg) (σ0 1 c0.toNatClampNeg) st = (σ0 2 c0.toNatClampNeg) :: (σ0 1 c0.toNatClampNeg) :: st := by unfold ph; rw [if_neg c107, if_neg c80]; rfl
      exact kk t2 H locs ls (Ex_tr (b := t1) (by rw [e_t1]; exact Ex_up (by decide)) (by rw [e_t2]; exact Ex_up (by decide))) (by rw [hph]; rw [List.reverse_cons, e_t2]; show Hl (upd (t1 9) (nI (st.length + 1)).toNatClampNeg (σ0 2 c0.toNatClampNeg)) _; rw [nI_clamp (by omega), show st.length + 1 = ((σ0 1 c0.toNatClampNeg) :: st).reverse.length by simp]; exact Hl_push g1 _) Y (by rw [hph]; exact (lv_sub hl [1, 2, 3, 0] rfl))
set_option maxHeartbeats 4000000 in
set_option maxRecDepth 100000 in
/-- LeftistHeapsModel.look: its loop -/
theorem x1_lk {p : Program} {l : Launch} {e : Env} {s : State} {m : MethodId} {args : Array Value} {below : List Frame} {meth : Method} {c : Code} {Q : State → Prop} {D : va_G} {dA : Nat → ClassId} {o : Nat} {q : Nat → Nat} {A : Nat → Prop} {H0 : Heap} {σ0 α : CS} {x2 r : Int32} (S : gS p s m meth c cX1_look 6 args RX1 (some .int) D (tX1 dA)) (hA : ∀ q, H0.size ≤ q → A q) (ham : Am α σ0) (kk : ∀ (σ : CS) (H : Heap) (locs : List Loc) (ls : Array Slot), Ex [9] σ0 σ → gP D (wX1 dA o q) A H0 σ H locs → lv_has ls 6 [(3, .int r)] → W p l e { frames := 0, cells := 0, slots := 0, locals := 0 } s m args below meth c H locs 0 0 Q (F0 m 130 ls [])) : ∀ (n : Nat) (stk : List Int32) (x3 : Int32) (σ : CS) (H : Heap) (locs : List Loc) (ls : Array Slot), Lk α x2 n stk x3 r → Ex [9] σ0 σ → Hl (σ 9) stk.reverse → gP D (wX1 dA o q) A H0 σ H locs → lv_has ls 6 [(0, .ref o), (2, .int x2), (3, .int x3), (4, .int (nI stk.length))] → W p l e { frames := 0, cells := 0, slots := 0, locals := 0 } s m args below meth c H locs 0 0 Q (F0 m 29 ls []) := by
  have hx := S.1
  have hb := S.2.1
  intro n
  induction n with
  | zero =>
    intro stk x3 σ H locs ls hlk hE h13 Y hl
    obtain ⟨h9, e8⟩ := hlk
    subst h9
    refine lv_iload hx hb dX1_look_29 (lv_at hl 3 rfl) ?_
    refine lv_if_le (tgt := 130) hx hb dX1_look_31 (by decide) (fun c31 => ?_) (fun c31 => ?_)
    · skip
      exact kk σ H locs ls hE Y (by rw [e8]; exact (lv_sub hl [2] rfl))
    · skip
      exact absurd (by decide +kernel : nI 0 ≤ 0) c31
  | succ n ih =>
    intro stk x3 σ H locs ls hlk hE h13 Y hl
    obtain ⟨c0, st, h9, hl1, h_c, hlk⟩ := hlk
    subst h9
    have hst : st.length ≤ 59 := by simp only [List.length_cons] at hl1; omega
    have h_k : vp_in (nI st.length) 64 := vp_in_nI (by omega) (by decide)
    rw [List.reverse_cons] at h13
    have h_t : σ 9 st.length = c0 := by have h9 := Hl_mid (a := st.reverse) (b := []) h13; rw [List.length_reverse] at h9; exact h9
    have h13 : Hl (σ 9) st.reverse := Hl_left h13
    have a1 : σ 1 = α 1 := (hE 1 (by decide)).trans (ham 1 (by decide))
    have a2 : σ 2 = α 2 := (hE 2 (by decide)).trans (ham 2 (by decide))
    have a4 : σ 4 = α 4 := (hE 4 (by decide)).trans (ham 4 (by decide))
    refine lv_iload hx hb dX1_look_29 (lv_at hl 3 rfl) ?_
    refine lv_if_le (tgt := 130) hx hb dX1_look_31 (by decide) (fun c31 => ?_) (fun c31 => ?_)
    · skip
      exact absurd c31 (nI_nle (by simp) (by simp only [List.length_cons]; omega))
    · skip
      refine lv_iinc (v := nI st.length) (lv' := [(4, .int (nI st.length)), (0, .ref o), (2, .int x2), (3, .int x3)]) hx hb dX1_look_34 hl (k := 3) rfl (pk_m1 _) (by decide) rfl (fun ls hl => ?_)
      refine lv_aload_n hx hb dX1_look_37 rfl (lv_at hl 1 rfl) ?_
      refine x1_g9 S Y dX1_look_38 ?_
      refine lv_iload hx hb dX1_look_41 (lv_at hl 0 rfl) ?_
      refine x1_l9 S Y h_k dX1_look_43 ?_
      refine lv_topi (fun v1 e_v1 => ?_)
      have e9 : c0 = v1 := by rw [e_v1, nI_clamp (by omega)]; exact h_t.symm
      subst e9
      refine lv_istore (lv' := [(5, .int c0), (4, .int (nI st.length)), (0, .ref o), (2, .int x2), (3, .int x3)]) hx hb dX1_look_44 hl (by decide) rfl (fun ls hl => ?_)
      refine lv_iload_n hx hb dX1_look_46 rfl (lv_at hl 3 rfl) ?_
      refine lv_if_ge (tgt := 64) hx hb dX1_look_47 (by decide) (fun c47 => ?_) (fun c47 => ?_)
      · skip
        refine lv_iload hx hb dX1_look_64 (lv_at hl 0 rfl) ?_
        refine lv_iload_n hx hb dX1_look_66 rfl (lv_at hl 3 rfl) ?_
        refine lv_icmp_ne (tgt := 73) hx hb dX1_look_67 (by decide) (fun c67 => ?_) (fun c67 => ?_)
        · skip
          refine x1_lt (σ0 := σ) (x2 := x2) (x3 := x3) (c0 := c0) (st := st) S hA h_c hst h13 ?_ H locs ls Y (lv_sub hl [2, 3, 4, 1, 0] rfl)
          intro σ1 H locs ls hE1 h131 Y hl
          exact ih _ x3 σ1 H locs ls (by rw [if_neg (ge0.mp c47), if_neg c67, ← a1, ← a2] at hlk; exact hlk) (Ex_tr hE hE1) h131 Y hl
        · skip
          refine lv_iinc (v := x3 + 1) (lv' := [(3, .int (x3 + 1)), (5, .int c0), (4, .int (nI st.length)), (0, .ref o), (2, .int x2)]) hx hb dX1_look_70 hl (k := 4) rfl rfl (by decide) rfl (fun ls hl => ?_)
          refine x1_lt (σ0 := σ) (x2 := x2) (x3 := (x3 + 1)) (c0 := c0) (st := st) S hA h_c hst h13 ?_ H locs ls Y (lv_sub hl [3, 4, 0, 2, 1] rfl)
          intro σ1 H locs ls hE1 h131 Y hl
          exact ih _ (x3 + 1) σ1 H locs ls (by rw [if_neg (ge0.mp c47), if_pos c67, ← a1, ← a2] at hlk; exact hlk) (Ex_tr hE hE1) h131 Y hl
      · skip
        refine lv_aload_n hx hb dX1_look_50 rfl (lv_at hl 2 rfl) ?_
        refine x1_g4 S Y dX1_look_51 ?_
        refine lv_iload hx hb dX1_look_54 (lv_at hl 0 rfl) ?_
        refine x1_l4 S Y h_c dX1_look_56 ?_
        refine lv_iconst (v := 1) hx hb dX1_look_57 (by decide) ?_
        refine lv_icmp_ne (tgt := 73) hx hb dX1_look_58 (by decide) (fun c58 => ?_) (fun c58 => ?_)
        · skip
          refine x1_lt (σ0 := σ) (x2 := x2) (x3 := x3) (c0 := c0) (st := st) S hA h_c hst h13 ?_ H locs ls Y (lv_sub hl [2, 3, 4, 1, 0] rfl)
          intro σ1 H locs ls hE1 h131 Y hl
          exact ih _ x3 σ1 H locs ls (by rw [if_pos (not_le32.mp c47), if_neg (by rw [← a4]; exact c58), ← a1, ← a2] at hlk; exact hlk) (Ex_tr hE hE1) h131 Y hl
        · skip
          refine lv_goto (tgt := 70) hx hb dX1_look_61 (by decide) ?_
          refine lv_iinc (v := x3 + 1) (lv' := [(3, .int (x3 + 1)), (5, .int c0), (4, .int (nI st.length)), (0, .ref o), (2, .int x2)]) hx hb dX1_look_70 hl (k := 4) rfl rfl (by decide) rfl (fun ls hl => ?_)
          refine x1_lt (σ0 := σ) (x2 := x2) (x3 := (x3 + 1)) (c0 := c0) (st := st) S hA h_c hst h13 ?_ H locs ls Y (lv_sub hl [3, 4, 0, 2, 1] rfl)
          intro σ1 H locs ls hE1 h131 Y hl
          exact ih _ (x3 + 1) σ1 H locs ls (by rw [if_pos (not_le32.mp c47), if_pos (by rw [← a4]; exact c58), ← a1, ← a2] at hlk; exact hlk) (Ex_tr hE hE1) h131 Y hl
set_option maxHeartbeats 4000000 in
set_option maxRecDepth 100000 in
/-- LeftistHeapsModel.look -/
theorem c1_look (l : Launch) (D : va_G) (dA : Nat → ClassId) (o : Nat) (q : Nat → Nat) (σ : CS) (α : CS) (h cell r : Int32) (n : Nat) (ham : Am α σ) (h_h : vp_in h 10) (hlk : Lk α cell n (if α 7 h.toNatClampNeg < 0 then [] else [α 7 h.toNatClampNeg]) 0 r) : gMi l D (wX1 dA o q) (tX1 dA) yX1_look cX1_look 6 (some .int) { frames := 0, cells := 0, slots := 0, locals := 0 } [.ref o, .int h, .int cell] σ (fun r' σ' => r' = r ∧ Ex [9] σ σ') := by
  intro sz
  refine gEnter (own := RX1) (lv := [(0, .ref o), (1, .int h), (2, .int cell)]) (wX1_g dA o q) (by decide) rfl (Nat.le_of_ble_eq_true rfl) rfl (fun p e s m below meth c ls S hA Y hl => ?_)
  have hx := S.1
  have hb := S.2.1
  refine lv_iconst (v := 0) hx hb dX1_look_0 (by decide) ?_
  refine lv_istore_n (lv' := [(3, .int 0), (0, .ref o), (1, .int h), (2, .int cell)]) hx hb dX1_look_1 rfl hl (by decide) rfl (fun ls hl => ?_)
  refine lv_iconst (v := 0) hx hb dX1_look_2 (by decide) ?_
  refine lv_istore (lv' := [(4, .int 0), (3, .int 0), (0, .ref o), (1, .int h), (2, .int cell)]) hx hb dX1_look_3 hl (by decide) rfl (fun ls hl => ?_)
  refine lv_aload_n hx hb dX1_look_5 rfl (lv_at hl 2 rfl) ?_
  refine x1_g7 S Y dX1_look_6 ?_
  refine lv_iload_n hx hb dX1_look_9 rfl (lv_at hl 3 rfl) ?_
  refine x1_l7 S Y h_h dX1_look_10 ?_
  refine lv_topi (fun v1 e_v1 => ?_)
  have e9 : (α 7 h.toNatClampNeg) = v1 := by rw [e_v1, ham 7 (by decide)]
  subst e9
  refine lv_if_lt (tgt := 29) hx hb dX1_look_11 (by decide) (fun c11 => ?_) (fun c11 => ?_)
  · skip
    refine x1_lk (σ0 := σ) (α := α) (x2 := cell) (r := r) S hA ham ?_ n [] 0 σ _ _ ls (by rw [if_pos c11] at hlk; exact hlk) (Ex_rf _ _) (Hl_nil _) Y (lv_sub hl [2, 4, 1, 0] rfl)
    intro σ1 H locs ls hE1 Y hl
    refine lv_iload_n hx hb dX1_look_130 rfl (lv_at hl 0 rfl) ?_
    exact gIret S Y rfl (⟨rfl, hE1⟩) dX1_look_131
  · skip
    refine lv_aload_n hx hb dX1_look_14 rfl (lv_at hl 2 rfl) ?_
    refine x1_g9 S Y dX1_look_15 ?_
    refine lv_iconst (v := 0) hx hb dX1_look_18 (by decide) ?_
    refine lv_aload_n hx hb dX1_look_19 rfl (lv_at hl 2 rfl) ?_
    refine x1_g7 S Y dX1_look_20 ?_
    refine lv_iload_n hx hb dX1_look_23 rfl (lv_at hl 3 rfl) ?_
    refine x1_l7 S Y h_h dX1_look_24 ?_
    refine lv_topi (fun v2 e_v2 => ?_)
    have e9 : (α 7 h.toNatClampNeg) = v2 := by rw [e_v2, ham 7 (by decide)]
    subst e9
    refine x1_s9 S Y (vp0 (by decide) (by decide)) dX1_look_25 (fun t1 H locs e_t1 Y => ?_)
    refine lv_iconst (v := 1) hx hb dX1_look_26 (by decide) ?_
    refine lv_istore (lv' := [(4, .int 1), (3, .int 0), (0, .ref o), (1, .int h), (2, .int cell)]) hx hb dX1_look_27 hl (by decide) rfl (fun ls hl => ?_)
    refine x1_lk (σ0 := σ) (α := α) (x2 := cell) (r := r) S hA ham ?_ n [(α 7 h.toNatClampNeg)] 0 t1 _ _ ls (by rw [if_neg c11] at hlk; exact hlk) (by rw [e_t1]; exact Ex_up (by decide)) (by rw [e_t1]; exact Hl_push (l := []) (Hl_nil _) _) Y (lv_sub hl [2, 4, 1, 0] rfl)
    intro σ1 H locs ls hE1 Y hl
    refine lv_iload_n hx hb dX1_look_130 rfl (lv_at hl 0 rfl) ?_
    exact gIret S Y rfl (⟨rfl, hE1⟩) dX1_look_131
set_option maxHeartbeats 4000000 in
set_option maxRecDepth 100000 in
/-- LeftistHeapsModel.heapOf: its loop -/
theorem x1_ho {p : Program} {l : Launch} {e : Env} {s : State} {m : MethodId} {args : Array Value} {below : List Frame} {meth : Method} {c : Code} {Q : State → Prop} {D : va_G} {dA : Nat → ClassId} {o : Nat} {q : Nat → Nat} {A : Nat → Prop} {H0 : Heap} {σ0 α : CS} {x r : Int32} {nh : Nat} (S : gS p s m meth c cX1_heapOf 4 args RX1 (some .int) D (tX1 dA)) (hA : ∀ q, H0.size ≤ q → A q) (ham : Am α σ0) (e8 : α 8 0 = nI nh) (hnh : nh ≤ 10) (kk : ∀ (σ : CS) (H : Heap) (locs : List Loc) (ls : Array Slot), Ex [9] σ0 σ → gP D (wX1 dA o q) A H0 σ H locs → lv_has ls 4 [(2, .int r)] → W p l e { frames := 1, cells := 0, slots := 0, locals := 25 } s m args below meth c H locs 0 0 Q (F0 m 33 ls [])) : ∀ (n h : Nat) (f : Int32) (σ : CS) (H : Heap) (locs : List Loc) (ls : Array Slot), Ho α x n h f r → h + n = nh → Ex [9] σ0 σ → gP D (wX1 dA o q) A H0 σ H locs → lv_has ls 4 [(0, .ref o), (1, .int x), (2, .int f), (3, .int (nI h))] → W p l e { frames := 1, cells := 0, slots := 0, locals := 25 } s m args below meth c H locs 0 0 Q (F0 m 4 ls []) := by
  have hx := S.1
  have hb := S.2.1
  intro n
  induction n with
  | zero =>
    intro h f σ H locs ls hho hh hE Y hl
    have a8 : σ 8 0 = nI nh := by rw [hE 8 (by decide), ham 8 (by decide)]; exact e8
    refine lv_iload_n hx hb dX1_heapOf_4 rfl (lv_at hl 3 rfl) ?_
    refine lv_aload_n hx hb dX1_heapOf_5 rfl (lv_at hl 0 rfl) ?_
    refine x1_g8 S Y dX1_heapOf_6 ?_
    refine lv_icmp_ge (tgt := 33) hx hb dX1_heapOf_9 (by decide) (fun c9 => ?_) (fun c9 => ?_)
    · skip
      exact kk σ H locs ls hE Y (by rw [show r = f from hho]; exact (lv_sub hl [2] rfl))
    · skip
      exact absurd (by rw [a8]; exact nI_le (by omega) (by omega)) c9
  | succ n ih =>
    intro h f σ H locs ls hho hh hE Y hl
    have a8 : σ 8 0 = nI nh := by rw [hE 8 (by decide), ham 8 (by decide)]; exact e8
    obtain ⟨v, k, hlk, hho⟩ := hho
    have h_h : vp_in (nI h) 10 := vp_in_nI (by omega) (by decide)
    refine lv_iload_n hx hb dX1_heapOf_4 rfl (lv_at hl 3 rfl) ?_
    refine lv_aload_n hx hb dX1_heapOf_5 rfl (lv_at hl 0 rfl) ?_
    refine x1_g8 S Y dX1_heapOf_6 ?_
    refine lv_icmp_ge (tgt := 33) hx hb dX1_heapOf_9 (by decide) (fun c9 => ?_) (fun c9 => ?_)
    · skip
      exact absurd c9 (by rw [a8]; exact nI_ge (by omega) (by omega))
    · skip
      refine lv_aload_n hx hb dX1_heapOf_12 rfl (lv_at hl 0 rfl) ?_
      refine lv_iload_n hx hb dX1_heapOf_13 rfl (lv_at hl 3 rfl) ?_
      refine lv_iload_n hx hb dX1_heapOf_14 rfl (lv_at hl 1 rfl) ?_
      refine gCallI (ci := 1) (As := [.int (nI h), .int x]) (rest := []) S (wX1_g dA o q) Y hA (c1_look l D dA o q σ α (nI h) x v k (Am_sc ham (Ex_sub hE (by decide))) h_h (by rw [nI_clamp (by omega)]; exact hlk)) (cwV 2 S.2.2.2.2.1 (lw_V q317 q319 qs22 q26 q320) rfl rfl rfl (by decide +kernel) ⟨Nat.le_of_ble_eq_true rfl, Nat.le_of_ble_eq_true rfl⟩) rfl rfl rfl rfl hl.1 rfl (Nat.le_of_ble_eq_true rfl) dX1_heapOf_15 ⟨Nat.le_refl _, Nat.le_refl _⟩ (fun r1 t1 H locs h_t1 Y => ?_)
      obtain ⟨e_r1, hE1⟩ := h_t1
      rw [e_r1]
      refine lv_if_le (tgt := 25) hx hb dX1_heapOf_18 (by decide) (fun c18 => ?_) (fun c18 => ?_)
      · skip
        refine lv_iload_n hx hb dX1_heapOf_25 rfl (lv_at hl 2 rfl) ?_
        refine lv_istore_n (lv' := [(2, .int f), (0, .ref o), (1, .int x), (3, .int (nI h))]) hx hb dX1_heapOf_26 rfl hl (by decide) rfl (fun ls hl => ?_)
        refine lv_iinc (v := nI (h + 1)) (lv' := [(3, .int (nI (h + 1))), (2, .int f), (0, .ref o), (1, .int x)]) hx hb dX1_heapOf_27 hl (k := 3) rfl (nI_1 _) (by decide) rfl (fun ls hl => ?_)
        refine lv_goto (tgt := 4) hx hb dX1_heapOf_30 (by decide) ?_
        exact ih (h + 1) f t1 H locs ls (by rw [if_pos c18] at hho; exact hho) (by omega) (Ex_tr hE hE1) Y (lv_sub hl [2, 3, 1, 0] rfl)
      · skip
        refine lv_iload_n hx hb dX1_heapOf_21 rfl (lv_at hl 3 rfl) ?_
        refine lv_goto (tgt := 26) hx hb dX1_heapOf_22 (by decide) ?_
        refine lv_istore_n (lv' := [(2, .int (nI h)), (0, .ref o), (1, .int x), (3, .int (nI h))]) hx hb dX1_heapOf_26 rfl hl (by decide) rfl (fun ls hl => ?_)
        refine lv_iinc (v := nI (h + 1)) (lv' := [(3, .int (nI (h + 1))), (2, .int (nI h)), (0, .ref o), (1, .int x)]) hx hb dX1_heapOf_27 hl (k := 3) rfl (nI_1 _) (by decide) rfl (fun ls hl => ?_)
        refine lv_goto (tgt := 4) hx hb dX1_heapOf_30 (by decide) ?_
        exact ih (h + 1) (nI h) t1 H locs ls (by rw [if_neg c18] at hho; exact hho) (by omega) (Ex_tr hE hE1) Y (lv_sub hl [2, 3, 1, 0] rfl)
set_option maxHeartbeats 4000000 in
set_option maxRecDepth 100000 in
/-- LeftistHeapsModel.heapOf -/
theorem c1_heapOf (l : Launch) (D : va_G) (dA : Nat → ClassId) (o : Nat) (q : Nat → Nat) (σ : CS) (α : CS) (x r : Int32) (nh : Nat) (ham : Am α σ) (e8 : α 8 0 = nI nh) (hnh : nh ≤ 10) (hho : Ho α x nh 0 (-1) r) : gMi l D (wX1 dA o q) (tX1 dA) yX1_heapOf cX1_heapOf 4 (some .int) { frames := 1, cells := 0, slots := 0, locals := 25 } [.ref o, .int x] σ (fun r' σ' => r' = r ∧ Ex [9] σ σ') := by
  intro sz
  refine gEnter (own := RX1) (lv := [(0, .ref o), (1, .int x)]) (wX1_g dA o q) (by decide) rfl (Nat.le_of_ble_eq_true rfl) rfl (fun p e s m below meth c ls S hA Y hl => ?_)
  have hx := S.1
  have hb := S.2.1
  refine lv_iconst (v := (-1)) hx hb dX1_heapOf_0 (by decide) ?_
  refine lv_istore_n (lv' := [(2, .int (-1)), (0, .ref o), (1, .int x)]) hx hb dX1_heapOf_1 rfl hl (by decide) rfl (fun ls hl => ?_)
  refine lv_iconst (v := 0) hx hb dX1_heapOf_2 (by decide) ?_
  refine lv_istore_n (lv' := [(3, .int 0), (2, .int (-1)), (0, .ref o), (1, .int x)]) hx hb dX1_heapOf_3 rfl hl (by decide) rfl (fun ls hl => ?_)
  refine x1_ho (σ0 := σ) (α := α) (x := x) (r := r) (nh := nh) S hA ham e8 hnh ?_ nh 0 (-1) σ _ _ ls hho (Nat.zero_add _) (Ex_rf _ _) Y (lv_sub hl [2, 3, 1, 0] rfl)
  intro σ1 H locs ls hE1 Y hl
  refine lv_iload_n hx hb dX1_heapOf_33 rfl (lv_at hl 0 rfl) ?_
  exact gIret S Y rfl (⟨rfl, hE1⟩) dX1_heapOf_34
set_option maxHeartbeats 4000000 in
set_option maxRecDepth 100000 in
/-- LeftistHeapsModel.node -/
theorem c1_node (l : Launch) (D : va_G) (dA : Nat → ClassId) (o : Nat) (q : Nat → Nat) (σ : CS) (α : CS) (x w ow : Int32) (nh : Nat) (ham : Am α σ) (e8 : α 8 0 = nI nh) (hnh : nh ≤ 10) (hw : vp_in x 60 → ¬ α 4 x.toNatClampNeg = 0 → Ho α x nh 0 (-1) ow) : gMi l D (wX1 dA o q) (tX1 dA) yX1_node cX1_node 3 (some .int) { frames := 2, cells := 0, slots := 0, locals := 48 } [.ref o, .int x, .int w] σ (fun r' σ' => Nd α x w ow r' ∧ Am α σ') := by
  intro sz
  refine gEnter (own := RX1) (lv := [(0, .ref o), (1, .int x), (2, .int w)]) (wX1_g dA o q) (by decide) rfl (Nat.le_of_ble_eq_true rfl) rfl (fun p e s m below meth c ls S hA Y hl => ?_)
  have hx := S.1
  have hb := S.2.1
  have a1 := ham 1 (by decide)
  have a2 := ham 2 (by decide)
  have a3 := ham 3 (by decide)
  have a4 := ham 4 (by decide)
  refine lv_iload_n hx hb dX1_node_0 rfl (lv_at hl 1 rfl) ?_
  refine lv_iconst (v := 0) hx hb dX1_node_1 (by decide) ?_
  refine lv_bipush (v := 59) hx hb dX1_node_2 (by decide) ?_
  refine gCallS (As := [.int x, .int 0, .int 59]) (rest := []) S Y (c1_isIn l x 0 59) (va_cwS 3 S.2.2.2.2.1 (lw_S q253 q254 q26 q255) rfl rfl rfl (by decide +kernel) ⟨Nat.le_of_ble_eq_true rfl, Nat.le_of_ble_eq_true rfl⟩) rfl hl.1 rfl (Nat.le_of_ble_eq_true rfl) dX1_node_4 ⟨Nat.le_refl _, Nat.le_refl _⟩ (fun r1 H locs h_r1 Y => ?_)
  refine lv_if_eq (tgt := 28) hx hb dX1_node_7 (by decide) (fun c7 => ?_) (fun c7 => ?_)
  · skip
    refine lv_iconst (v := (-1)) hx hb dX1_node_28 (by decide) ?_
    exact gIret S Y rfl (⟨Or.inl ⟨fun h9 => by rcases h_r1 with h8 | h8; exact absurd (h8.1.symm.trans c7) (by decide); exact h8.2 (vp59.mpr h9.1), rfl⟩, ham⟩) dX1_node_29
  · skip
    have h_x : vp_in x 60 := by rcases h_r1 with h8 | h8; exact vp59.mp h8.2; exact absurd h8.1 c7
    refine lv_aload_n hx hb dX1_node_10 rfl (lv_at hl 0 rfl) ?_
    refine x1_g4 S Y dX1_node_11 ?_
    refine lv_iload_n hx hb dX1_node_14 rfl (lv_at hl 1 rfl) ?_
    refine x1_l4 S Y h_x dX1_node_15 ?_
    refine lv_if_eq (tgt := 28) hx hb dX1_node_16 (by decide) (fun c16 => ?_) (fun c16 => ?_)
    · skip
      refine lv_iconst (v := (-1)) hx hb dX1_node_28 (by decide) ?_
      exact gIret S Y rfl (⟨Or.inl ⟨fun h9 => h9.2.1 (by rw [← a4]; exact c16), rfl⟩, ham⟩) dX1_node_29
    · skip
      refine lv_iload_n hx hb dX1_node_19 rfl (lv_at hl 2 rfl) ?_
      refine lv_iconst (v := 0) hx hb dX1_node_20 (by decide) ?_
      refine lv_iconst (v := 4) hx hb dX1_node_21 (by decide) ?_
      refine gCallS (As := [.int w, .int 0, .int 4]) (rest := []) S Y (c1_isIn l w 0 4) (va_cwS 3 S.2.2.2.2.1 (lw_S q253 q254 q26 q255) rfl rfl rfl (by decide +kernel) ⟨Nat.le_of_ble_eq_true rfl, Nat.le_of_ble_eq_true rfl⟩) rfl hl.1 rfl (Nat.le_of_ble_eq_true rfl) dX1_node_22 ⟨Nat.le_refl _, Nat.le_refl _⟩ (fun r2 H locs h_r2 Y => ?_)
      refine lv_if_ne (tgt := 30) hx hb dX1_node_25 (by decide) (fun c25 => ?_) (fun c25 => ?_)
      · skip
        have hU : ¬ α 4 x.toNatClampNeg = 0 := by rw [← a4]; exact c16
        have hW : 0 ≤ w ∧ w ≤ 4 := by rcases h_r2 with h8 | h8; exact h8.2; exact absurd h8.1 c25
        have hG : vp_in x 60 ∧ ¬ α 4 x.toNatClampNeg = 0 ∧ 0 ≤ w ∧ w ≤ 4 := ⟨h_x, hU, hW.1, hW.2⟩
        refine lv_iload_n hx hb dX1_node_30 rfl (lv_at hl 2 rfl) ?_
        refine lv_if_ne (tgt := 43) hx hb dX1_node_31 (by decide) (fun c31 => ?_) (fun c31 => ?_)
        · skip
          refine lv_iload_n hx hb dX1_node_43 rfl (lv_at hl 2 rfl) ?_
          refine lv_iconst (v := 1) hx hb dX1_node_44 (by decide) ?_
          refine lv_icmp_ne (tgt := 57) hx hb dX1_node_45 (by decide) (fun c45 => ?_) (fun c45 => ?_)
          · skip
            refine lv_iload_n hx hb dX1_node_57 rfl (lv_at hl 2 rfl) ?_
            refine lv_iconst (v := 2) hx hb dX1_node_58 (by decide) ?_
            refine lv_icmp_ne (tgt := 71) hx hb dX1_node_59 (by decide) (fun c59 => ?_) (fun c59 => ?_)
            · skip
              refine lv_iload_n hx hb dX1_node_71 rfl (lv_at hl 2 rfl) ?_
              refine lv_iconst (v := 3) hx hb dX1_node_72 (by decide) ?_
              refine lv_icmp_ne (tgt := 94) hx hb dX1_node_73 (by decide) (fun c73 => ?_) (fun c73 => ?_)
              · skip
                refine lv_aload_n hx hb dX1_node_94 rfl (lv_at hl 0 rfl) ?_
                refine lv_iload_n hx hb dX1_node_95 rfl (lv_at hl 1 rfl) ?_
                refine gCallI (ci := 1) (As := [.int x]) (rest := []) S (wX1_g dA o q) Y hA (c1_heapOf l D dA o q σ α x ow nh ham e8 hnh (hw h_x hU)) (cwV 1 S.2.2.2.2.1 (lw_V q329 q331 qs23 q26 q332) rfl rfl rfl (by decide +kernel) ⟨Nat.le_of_ble_eq_true rfl, Nat.le_of_ble_eq_true rfl⟩) rfl rfl rfl rfl hl.1 rfl (Nat.le_of_ble_eq_true rfl) dX1_node_96 ⟨Nat.le_refl _, Nat.le_refl _⟩ (fun r3 t1 H locs h_t1 Y => ?_)
                exact gIret S Y rfl (⟨Or.inr ⟨hG, Or.inr (Or.inr (Or.inr (Or.inr ⟨⟨c31, c45, c59, c73⟩, h_t1.1⟩)))⟩, Am_sc ham (Ex_sub h_t1.2 (by decide))⟩) dX1_node_99
              · skip
                refine lv_aload_n hx hb dX1_node_76 rfl (lv_at hl 0 rfl) ?_
                refine x1_g4 S Y dX1_node_77 ?_
                refine lv_iload_n hx hb dX1_node_80 rfl (lv_at hl 1 rfl) ?_
                refine x1_l4 S Y h_x dX1_node_81 ?_
                refine lv_iconst (v := 1) hx hb dX1_node_82 (by decide) ?_
                refine lv_icmp_ne (tgt := 90) hx hb dX1_node_83 (by decide) (fun c83 => ?_) (fun c83 => ?_)
                · skip
                  refine lv_iconst (v := 0) hx hb dX1_node_90 (by decide) ?_
                  refine lv_goto (tgt := 99) hx hb dX1_node_91 (by decide) ?_
                  exact gIret S Y rfl (⟨Or.inr ⟨hG, Or.inr (Or.inr (Or.inr (Or.inl ⟨c73, by rw [if_neg (by rw [← a4]; exact c83)]⟩)))⟩, ham⟩) dX1_node_99
                · skip
                  refine lv_iconst (v := 1) hx hb dX1_node_86 (by decide) ?_
                  refine lv_goto (tgt := 99) hx hb dX1_node_87 (by decide) ?_
                  exact gIret S Y rfl (⟨Or.inr ⟨hG, Or.inr (Or.inr (Or.inr (Or.inl ⟨c73, by rw [if_pos (by rw [← a4]; exact c83)]⟩)))⟩, ham⟩) dX1_node_99
            · skip
              refine lv_aload_n hx hb dX1_node_62 rfl (lv_at hl 0 rfl) ?_
              refine x1_g3 S Y dX1_node_63 ?_
              refine lv_iload_n hx hb dX1_node_66 rfl (lv_at hl 1 rfl) ?_
              refine x1_l3 S Y h_x dX1_node_67 ?_
              refine lv_goto (tgt := 99) hx hb dX1_node_68 (by decide) ?_
              exact gIret S Y rfl (⟨Or.inr ⟨hG, Or.inr (Or.inr (Or.inl ⟨c59, by rw [a3]⟩))⟩, ham⟩) dX1_node_99
          · skip
            refine lv_aload_n hx hb dX1_node_48 rfl (lv_at hl 0 rfl) ?_
            refine x1_g2 S Y dX1_node_49 ?_
            refine lv_iload_n hx hb dX1_node_52 rfl (lv_at hl 1 rfl) ?_
            refine x1_l2 S Y h_x dX1_node_53 ?_
            refine lv_goto (tgt := 99) hx hb dX1_node_54 (by decide) ?_
            exact gIret S Y rfl (⟨Or.inr ⟨hG, Or.inr (Or.inl ⟨c45, by rw [a2]⟩)⟩, ham⟩) dX1_node_99
        · skip
          refine lv_aload_n hx hb dX1_node_34 rfl (lv_at hl 0 rfl) ?_
          refine x1_g1 S Y dX1_node_35 ?_
          refine lv_iload_n hx hb dX1_node_38 rfl (lv_at hl 1 rfl) ?_
          refine x1_l1 S Y h_x dX1_node_39 ?_
          refine lv_goto (tgt := 99) hx hb dX1_node_40 (by decide) ?_
          exact gIret S Y rfl (⟨Or.inr ⟨hG, Or.inl ⟨c31, by rw [a1]⟩⟩, ham⟩) dX1_node_99
      · skip
        refine lv_iconst (v := (-1)) hx hb dX1_node_28 (by decide) ?_
        exact gIret S Y rfl (⟨Or.inl ⟨fun h9 => by rcases h_r2 with h8 | h8; exact absurd (h8.1.symm.trans c25) (by decide); exact h8.2 ⟨h9.2.2.1, h9.2.2.2⟩, rfl⟩, ham⟩) dX1_node_29
set_option maxHeartbeats 4000000 in
set_option maxRecDepth 100000 in
/-- LeftistHeapsModel.keyOf -/
theorem c1_keyOf (l : Launch) (D : va_G) (dA : Nat → ClassId) (o : Nat) (q : Nat → Nat) (σ : CS) (α : CS) (x : Int32) (ham : Am α σ) : gMi l D (wX1 dA o q) (tX1 dA) yX1_keyOf cX1_keyOf 2 (some .int) { frames := 1, cells := 0, slots := 0, locals := 22 } [.ref o, .int x] σ (fun r' σ' => σ' = σ ∧ ((isL α x ∧ r' = α 0 x.toNatClampNeg) ∨ (¬ isL α x ∧ r' = 0))) := by
  intro sz
  refine gEnter (own := RX1) (lv := [(0, .ref o), (1, .int x)]) (wX1_g dA o q) (by decide) rfl (Nat.le_of_ble_eq_true rfl) rfl (fun p e s m below meth c ls S hA Y hl => ?_)
  have hx := S.1
  have hb := S.2.1
  have a4 := ham 4 (by decide)
  refine lv_iload_n hx hb dX1_keyOf_0 rfl (lv_at hl 1 rfl) ?_
  refine lv_iconst (v := 0) hx hb dX1_keyOf_1 (by decide) ?_
  refine lv_bipush (v := 59) hx hb dX1_keyOf_2 (by decide) ?_
  refine gCallS (As := [.int x, .int 0, .int 59]) (rest := []) S Y (c1_isIn l x 0 59) (va_cwS 3 S.2.2.2.2.1 (lw_S q253 q254 q26 q255) rfl rfl rfl (by decide +kernel) ⟨Nat.le_of_ble_eq_true rfl, Nat.le_of_ble_eq_true rfl⟩) rfl hl.1 rfl (Nat.le_of_ble_eq_true rfl) dX1_keyOf_4 ⟨Nat.le_refl _, Nat.le_refl _⟩ (fun r1 H locs h_r1 Y => ?_)
  refine lv_if_eq (tgt := 29) hx hb dX1_keyOf_7 (by decide) (fun c7 => ?_) (fun c7 => ?_)
  · skip
    refine lv_iconst (v := 0) hx hb dX1_keyOf_29 (by decide) ?_
    exact gIret S Y rfl (⟨rfl, Or.inr ⟨fun h9 => by rcases h_r1 with h8 | h8; exact absurd (h8.1.symm.trans c7) (by decide); exact h8.2 (vp59.mpr h9.1), rfl⟩⟩) dX1_keyOf_30
  · skip
    have h_x : vp_in x 60 := by rcases h_r1 with h8 | h8; exact vp59.mp h8.2; exact absurd h8.1 c7
    refine lv_aload_n hx hb dX1_keyOf_10 rfl (lv_at hl 0 rfl) ?_
    refine x1_g4 S Y dX1_keyOf_11 ?_
    refine lv_iload_n hx hb dX1_keyOf_14 rfl (lv_at hl 1 rfl) ?_
    refine x1_l4 S Y h_x dX1_keyOf_15 ?_
    refine lv_iconst (v := 1) hx hb dX1_keyOf_16 (by decide) ?_
    refine lv_icmp_ne (tgt := 29) hx hb dX1_keyOf_17 (by decide) (fun c17 => ?_) (fun c17 => ?_)
    · skip
      refine lv_iconst (v := 0) hx hb dX1_keyOf_29 (by decide) ?_
      exact gIret S Y rfl (⟨rfl, Or.inr ⟨fun h9 => c17 (by rw [a4]; exact h9.2), rfl⟩⟩) dX1_keyOf_30
    · skip
      refine lv_aload_n hx hb dX1_keyOf_20 rfl (lv_at hl 0 rfl) ?_
      refine x1_g0 S Y dX1_keyOf_21 ?_
      refine lv_iload_n hx hb dX1_keyOf_24 rfl (lv_at hl 1 rfl) ?_
      refine x1_l0 S Y h_x dX1_keyOf_25 ?_
      refine lv_goto (tgt := 30) hx hb dX1_keyOf_26 (by decide) ?_
      exact gIret S Y rfl (⟨rfl, Or.inl ⟨⟨h_x, by rw [← a4]; exact c17⟩, by rw [ham 0 (by decide)]⟩⟩) dX1_keyOf_30
set_option maxHeartbeats 4000000 in
set_option maxRecDepth 100000 in
/-- LeftistHeapsModel.delete -/
theorem c1_delete (l : Launch) (D : va_G) (dA : Nat → ClassId) (o : Nat) (q : Nat → Nat) (σ : CS) (α : CS) (x : Int32) (ham : Am α σ) : gMi l D (wX1 dA o q) (tX1 dA) yX1_delete cX1_delete 2 (some .int) { frames := 1, cells := 0, slots := 0, locals := 22 } [.ref o, .int x] σ (fun r' σ' => (isL α x ∧ r' = 0 ∧ Am (va_up α 4 (upd (α 4) x.toNatClampNeg 2)) σ') ∨ (¬ isL α x ∧ r' = -1 ∧ σ' = σ)) := by
  intro sz
  refine gEnter (own := RX1) (lv := [(0, .ref o), (1, .int x)]) (wX1_g dA o q) (by decide) rfl (Nat.le_of_ble_eq_true rfl) rfl (fun p e s m below meth c ls S hA Y hl => ?_)
  have hx := S.1
  have hb := S.2.1
  have a4 := ham 4 (by decide)
  refine lv_iload_n hx hb dX1_delete_0 rfl (lv_at hl 1 rfl) ?_
  refine lv_iconst (v := 0) hx hb dX1_delete_1 (by decide) ?_
  refine lv_bipush (v := 59) hx hb dX1_delete_2 (by decide) ?_
  refine gCallS (As := [.int x, .int 0, .int 59]) (rest := []) S Y (c1_isIn l x 0 59) (va_cwS 3 S.2.2.2.2.1 (lw_S q253 q254 q26 q255) rfl rfl rfl (by decide +kernel) ⟨Nat.le_of_ble_eq_true rfl, Nat.le_of_ble_eq_true rfl⟩) rfl hl.1 rfl (Nat.le_of_ble_eq_true rfl) dX1_delete_4 ⟨Nat.le_refl _, Nat.le_refl _⟩ (fun r1 H locs h_r1 Y => ?_)
  refine lv_if_eq (tgt := 20) hx hb dX1_delete_7 (by decide) (fun c7 => ?_) (fun c7 => ?_)
  · skip
    refine lv_iconst (v := (-1)) hx hb dX1_delete_20 (by decide) ?_
    exact gIret S Y rfl (Or.inr ⟨fun h9 => by rcases h_r1 with h8 | h8; exact absurd (h8.1.symm.trans c7) (by decide); exact h8.2 (vp59.mpr h9.1), rfl, rfl⟩) dX1_delete_21
  · skip
    have h_x : vp_in x 60 := by rcases h_r1 with h8 | h8; exact vp59.mp h8.2; exact absurd h8.1 c7
    refine lv_aload_n hx hb dX1_delete_10 rfl (lv_at hl 0 rfl) ?_
    refine x1_g4 S Y dX1_delete_11 ?_
    refine lv_iload_n hx hb dX1_delete_14 rfl (lv_at hl 1 rfl) ?_
    refine x1_l4 S Y h_x dX1_delete_15 ?_
    refine lv_iconst (v := 1) hx hb dX1_delete_16 (by decide) ?_
    refine lv_icmp_eq (tgt := 22) hx hb dX1_delete_17 (by decide) (fun c17 => ?_) (fun c17 => ?_)
    · skip
      refine lv_aload_n hx hb dX1_delete_22 rfl (lv_at hl 0 rfl) ?_
      refine x1_g4 S Y dX1_delete_23 ?_
      refine lv_iload_n hx hb dX1_delete_26 rfl (lv_at hl 1 rfl) ?_
      refine lv_iconst (v := 2) hx hb dX1_delete_27 (by decide) ?_
      refine x1_s4 S Y h_x dX1_delete_28 (fun t1 H locs e_t1 Y => ?_)
      refine lv_iconst (v := 0) hx hb dX1_delete_29 (by decide) ?_
      exact gIret S Y rfl (Or.inl ⟨⟨h_x, by rw [← a4]; exact c17⟩, rfl, by rw [e_t1, a4]; exact Am_upd ham 4 _⟩) dX1_delete_30
    · skip
      refine lv_iconst (v := (-1)) hx hb dX1_delete_20 (by decide) ?_
      exact gIret S Y rfl (Or.inr ⟨fun h9 => c17 (by rw [a4]; exact h9.2), rfl, rfl⟩) dX1_delete_21
set_option maxHeartbeats 4000000 in
set_option maxRecDepth 100000 in
/-- LeftistHeapsModel.topOf -/
theorem c1_topOf (l : Launch) (D : va_G) (dA : Nat → ClassId) (o : Nat) (q : Nat → Nat) (σ : CS) (α : CS) (h : Int32) (nh : Nat) (e8 : α 8 0 = nI nh) (hnh : nh ≤ 10) (ham : Am α σ) : gMi l D (wX1 dA o q) (tX1 dA) yX1_topOf cX1_topOf 2 (some .int) { frames := 2, cells := 0, slots := 0, locals := 43 } [.ref o, .int h] σ (fun r' σ' => σ' = σ ∧ ((isH α h ∧ r' = α 7 h.toNatClampNeg) ∨ (¬ isH α h ∧ r' = -1))) := by
  intro sz
  refine gEnter (own := RX1) (lv := [(0, .ref o), (1, .int h)]) (wX1_g dA o q) (by decide) rfl (Nat.le_of_ble_eq_true rfl) rfl (fun p e s m below meth c ls S hA Y hl => ?_)
  have hx := S.1
  have hb := S.2.1
  refine lv_aload_n hx hb dX1_topOf_0 rfl (lv_at hl 0 rfl) ?_
  refine lv_iload_n hx hb dX1_topOf_1 rfl (lv_at hl 1 rfl) ?_
  refine gCallI (ci := 1) (As := [.int h]) (rest := []) S (wX1_g dA o q) Y hA (c1_isHeap l D dA o q σ α h nh ham e8 hnh) (cwV 1 S.2.2.2.2.1 (lw_V q249 q251 qs12 q26 q252) rfl rfl rfl (by decide +kernel) ⟨Nat.le_of_ble_eq_true rfl, Nat.le_of_ble_eq_true rfl⟩) rfl rfl rfl rfl hl.1 rfl (Nat.le_of_ble_eq_true rfl) dX1_topOf_2 ⟨Nat.le_refl _, Nat.le_refl _⟩ (fun r1 q1 H locs h_q1 Y => ?_)
  rw [h_q1.1] at Y
  have y_q1 : (¬ r1 = 0 ∧ isH α h) ∨ (r1 = 0 ∧ ¬ isH α h) := by rcases h_q1.2 with ⟨h9, h8⟩ | ⟨h9, h8⟩; exact Or.inl ⟨by rw [h9]; decide, h8⟩; exact Or.inr ⟨h9, h8⟩
  refine lv_if_eq (tgt := 17) hx hb dX1_topOf_5 (by decide) (fun c5 => ?_) (fun c5 => ?_)
  · skip
    refine lv_iconst (v := (-1)) hx hb dX1_topOf_17 (by decide) ?_
    exact gIret S Y rfl (⟨rfl, Or.inr ⟨(y_q1.resolve_left (fun h9 => h9.1 c5)).2, rfl⟩⟩) dX1_topOf_18
  · skip
    have hI : isH α h := (y_q1.resolve_right (fun h9 => c5 h9.1)).2
    have h_h : vp_in h 10 := vp10 hI.1 hI.2 e8 hnh
    refine lv_aload_n hx hb dX1_topOf_8 rfl (lv_at hl 0 rfl) ?_
    refine x1_g7 S Y dX1_topOf_9 ?_
    refine lv_iload_n hx hb dX1_topOf_12 rfl (lv_at hl 1 rfl) ?_
    refine x1_l7 S Y h_h dX1_topOf_13 ?_
    refine lv_goto (tgt := 18) hx hb dX1_topOf_14 (by decide) ?_
    exact gIret S Y rfl (⟨rfl, Or.inl ⟨hI, by rw [ham 7 (by decide)]⟩⟩) dX1_topOf_18
set_option maxHeartbeats 4000000 in
set_option maxRecDepth 100000 in
/-- LeftistHeapsModel.size -/
theorem c1_size (l : Launch) (D : va_G) (dA : Nat → ClassId) (o : Nat) (q : Nat → Nat) (σ : CS) (α : CS) (h v : Int32) (nh : Nat) (e8 : α 8 0 = nI nh) (hnh : nh ≤ 10) (ham : Am α σ) (hlk : isH α h → ∃ n, Lk α (-1) n (if α 7 h.toNatClampNeg < 0 then [] else [α 7 h.toNatClampNeg]) 0 v) : gMi l D (wX1 dA o q) (tX1 dA) yX1_size cX1_size 2 (some .int) { frames := 2, cells := 0, slots := 0, locals := 43 } [.ref o, .int h] σ (fun r' σ' => Am α σ' ∧ ((isH α h ∧ r' = v) ∨ (¬ isH α h ∧ r' = -1))) := by
  intro sz
  refine gEnter (own := RX1) (lv := [(0, .ref o), (1, .int h)]) (wX1_g dA o q) (by decide) rfl (Nat.le_of_ble_eq_true rfl) rfl (fun p e s m below meth c ls S hA Y hl => ?_)
  have hx := S.1
  have hb := S.2.1
  refine lv_aload_n hx hb dX1_size_0 rfl (lv_at hl 0 rfl) ?_
  refine lv_iload_n hx hb dX1_size_1 rfl (lv_at hl 1 rfl) ?_
  refine gCallI (ci := 1) (As := [.int h]) (rest := []) S (wX1_g dA o q) Y hA (c1_isHeap l D dA o q σ α h nh ham e8 hnh) (cwV 1 S.2.2.2.2.1 (lw_V q249 q251 qs12 q26 q252) rfl rfl rfl (by decide +kernel) ⟨Nat.le_of_ble_eq_true rfl, Nat.le_of_ble_eq_true rfl⟩) rfl rfl rfl rfl hl.1 rfl (Nat.le_of_ble_eq_true rfl) dX1_size_2 ⟨Nat.le_refl _, Nat.le_refl _⟩ (fun r1 q1 H locs h_q1 Y => ?_)
  rw [h_q1.1] at Y
  have y_q1 : (¬ r1 = 0 ∧ isH α h) ∨ (r1 = 0 ∧ ¬ isH α h) := by rcases h_q1.2 with ⟨h9, h8⟩ | ⟨h9, h8⟩; exact Or.inl ⟨by rw [h9]; decide, h8⟩; exact Or.inr ⟨h9, h8⟩
  refine lv_if_eq (tgt := 17) hx hb dX1_size_5 (by decide) (fun c5 => ?_) (fun c5 => ?_)
  · skip
    refine lv_iconst (v := (-1)) hx hb dX1_size_17 (by decide) ?_
    exact gIret S Y rfl (⟨ham, Or.inr ⟨(y_q1.resolve_left (fun h9 => h9.1 c5)).2, rfl⟩⟩) dX1_size_18
  · skip
    have hI : isH α h := (y_q1.resolve_right (fun h9 => c5 h9.1)).2
    have h_h : vp_in h 10 := vp10 hI.1 hI.2 e8 hnh
    obtain ⟨n, hlk⟩ := hlk hI
    refine lv_aload_n hx hb dX1_size_8 rfl (lv_at hl 0 rfl) ?_
    refine lv_iload_n hx hb dX1_size_9 rfl (lv_at hl 1 rfl) ?_
    refine lv_iconst (v := (-1)) hx hb dX1_size_10 (by decide) ?_
    refine gCallI (ci := 1) (As := [.int h, .int (-1)]) (rest := []) S (wX1_g dA o q) Y hA (c1_look l D dA o q σ α h (-1) v n ham h_h hlk) (cwV 2 S.2.2.2.2.1 (lw_V q317 q319 qs22 q26 q320) rfl rfl rfl (by decide +kernel) ⟨Nat.le_of_ble_eq_true rfl, Nat.le_of_ble_eq_true rfl⟩) rfl rfl rfl rfl hl.1 rfl (Nat.le_of_ble_eq_true rfl) dX1_size_11 ⟨Nat.le_refl _, Nat.le_refl _⟩ (fun r2 t1 H locs h_t1 Y => ?_)
    refine lv_goto (tgt := 18) hx hb dX1_size_14 (by decide) ?_
    exact gIret S Y rfl (⟨Am_sc ham (Ex_sub h_t1.2 (by decide)), Or.inl ⟨hI, h_t1.1⟩⟩) dX1_size_18
set_option maxHeartbeats 4000000 in
set_option maxRecDepth 100000 in
/-- LeftistHeapsModel.findMin -/
theorem c1_findMin (l : Launch) (D : va_G) (dA : Nat → ClassId) (o : Nat) (q : Nat → Nat) (σ : CS) (α : CS) (h r : Int32) (α' : CS) (nh : Nat) (e8 : α 8 0 = nI nh) (hnh : nh ≤ 10) (ham : Am α σ) (hf : Fm α h r α') : gMi l D (wX1 dA o q) (tX1 dA) yX1_findMin cX1_findMin 2 (some .int) { frames := 4, cells := 0, slots := 0, locals := 95 } [.ref o, .int h] σ (fun r' σ' => r' = r ∧ Am α' σ') := by
  intro sz
  refine gEnter (own := RX1) (lv := [(0, .ref o), (1, .int h)]) (wX1_g dA o q) (by decide) rfl (Nat.le_of_ble_eq_true rfl) rfl (fun p e s m below meth c ls S hA Y hl => ?_)
  have hx := S.1
  have hb := S.2.1
  rcases hf with ⟨hn, e7, e9⟩ | ⟨hn, ⟨h_h, h_p, ht⟩, e7⟩
  · skip
    refine lv_aload_n hx hb dX1_findMin_0 rfl (lv_at hl 0 rfl) ?_
    refine lv_iload_n hx hb dX1_findMin_1 rfl (lv_at hl 1 rfl) ?_
    refine gCallI (ci := 1) (As := [.int h]) (rest := []) S (wX1_g dA o q) Y hA (c1_isHeap l D dA o q σ α h nh ham e8 hnh) (cwV 1 S.2.2.2.2.1 (lw_V q249 q251 qs12 q26 q252) rfl rfl rfl (by decide +kernel) ⟨Nat.le_of_ble_eq_true rfl, Nat.le_of_ble_eq_true rfl⟩) rfl rfl rfl rfl hl.1 rfl (Nat.le_of_ble_eq_true rfl) dX1_findMin_2 ⟨Nat.le_refl _, Nat.le_refl _⟩ (fun r1 s1 H locs h_s1 Y => ?_)
    rw [h_s1.1] at Y
    have hz : r1 = 0 := by rcases h_s1.2 with ⟨-, h9⟩ | ⟨h9, -⟩; exact absurd h9 hn; exact h9
    refine lv_if_ne (tgt := 10) hx hb dX1_findMin_5 (by decide) (fun c5 => ?_) (fun c5 => ?_)
    · skip
      exact absurd hz c5
    · skip
      refine lv_iconst (v := (-1)) hx hb dX1_findMin_8 (by decide) ?_
      exact gIret S Y rfl (⟨e7.symm, by rw [e9]; exact ham⟩) dX1_findMin_9
  · rcases ht with ⟨hc, e9⟩ | ⟨hc, hs, e9⟩ | ⟨hc, hs, r2, α1, hpu, e9⟩
    · skip
      refine lv_aload_n hx hb dX1_findMin_0 rfl (lv_at hl 0 rfl) ?_
      refine lv_iload_n hx hb dX1_findMin_1 rfl (lv_at hl 1 rfl) ?_
      refine gCallI (ci := 1) (As := [.int h]) (rest := []) S (wX1_g dA o q) Y hA (c1_isHeap l D dA o q σ α h nh ham e8 hnh) (cwV 1 S.2.2.2.2.1 (lw_V q249 q251 qs12 q26 q252) rfl rfl rfl (by decide +kernel) ⟨Nat.le_of_ble_eq_true rfl, Nat.le_of_ble_eq_true rfl⟩) rfl rfl rfl rfl hl.1 rfl (Nat.le_of_ble_eq_true rfl) dX1_findMin_2 ⟨Nat.le_refl _, Nat.le_refl _⟩ (fun r1 s1 H locs h_s1 Y => ?_)
      rw [h_s1.1] at Y
      have hz : ¬ r1 = 0 := by rcases h_s1.2 with ⟨h9, -⟩ | ⟨-, h9⟩; rw [h9]; decide; exact absurd hn h9
      refine lv_if_ne (tgt := 10) hx hb dX1_findMin_5 (by decide) (fun c5 => ?_) (fun c5 => ?_)
      · skip
        refine lv_aload_n hx hb dX1_findMin_10 rfl (lv_at hl 0 rfl) ?_
        refine x1_g7 S Y dX1_findMin_11 ?_
        refine lv_iload_n hx hb dX1_findMin_14 rfl (lv_at hl 1 rfl) ?_
        refine x1_l7 S Y h_h dX1_findMin_15 ?_
        refine lv_topi (fun v1 e_v1 => ?_)
        have e9 : (α 7 h.toNatClampNeg) = v1 := by rw [e_v1, ham 7 (by decide)]
        subst e9
        refine lv_if_lt (tgt := 40) hx hb dX1_findMin_16 (by decide) (fun c16 => ?_) (fun c16 => ?_)
        · skip
          refine lv_aload_n hx hb dX1_findMin_40 rfl (lv_at hl 0 rfl) ?_
          refine x1_g7 S Y dX1_findMin_41 ?_
          refine lv_iload_n hx hb dX1_findMin_44 rfl (lv_at hl 1 rfl) ?_
          refine x1_l7 S Y h_h dX1_findMin_45 ?_
          exact gIret S Y rfl (⟨by rw [e7, e9, ham 7 (by decide)], by rw [e9]; exact ham⟩) dX1_findMin_46
        · skip
          exact absurd hc c16
      · skip
        exact absurd c5 hz
    · skip
      refine lv_aload_n hx hb dX1_findMin_0 rfl (lv_at hl 0 rfl) ?_
      refine lv_iload_n hx hb dX1_findMin_1 rfl (lv_at hl 1 rfl) ?_
      refine gCallI (ci := 1) (As := [.int h]) (rest := []) S (wX1_g dA o q) Y hA (c1_isHeap l D dA o q σ α h nh ham e8 hnh) (cwV 1 S.2.2.2.2.1 (lw_V q249 q251 qs12 q26 q252) rfl rfl rfl (by decide +kernel) ⟨Nat.le_of_ble_eq_true rfl, Nat.le_of_ble_eq_true rfl⟩) rfl rfl rfl rfl hl.1 rfl (Nat.le_of_ble_eq_true rfl) dX1_findMin_2 ⟨Nat.le_refl _, Nat.le_refl _⟩ (fun r1 s1 H locs h_s1 Y => ?_)
      rw [h_s1.1] at Y
      have hz : ¬ r1 = 0 := by rcases h_s1.2 with ⟨h9, -⟩ | ⟨-, h9⟩; rw [h9]; decide; exact absurd hn h9
      refine lv_if_ne (tgt := 10) hx hb dX1_findMin_5 (by decide) (fun c5 => ?_) (fun c5 => ?_)
      · skip
        refine lv_aload_n hx hb dX1_findMin_10 rfl (lv_at hl 0 rfl) ?_
        refine x1_g7 S Y dX1_findMin_11 ?_
        refine lv_iload_n hx hb dX1_findMin_14 rfl (lv_at hl 1 rfl) ?_
        refine x1_l7 S Y h_h dX1_findMin_15 ?_
        refine lv_topi (fun v1 e_v1 => ?_)
        have e9 : (α 7 h.toNatClampNeg) = v1 := by rw [e_v1, ham 7 (by decide)]
        subst e9
        refine lv_if_lt (tgt := 40) hx hb dX1_findMin_16 (by decide) (fun c16 => ?_) (fun c16 => ?_)
        · skip
          exact absurd c16 hc
        · skip
          refine lv_aload_n hx hb dX1_findMin_19 rfl (lv_at hl 0 rfl) ?_
          refine x1_g4 S Y dX1_findMin_20 ?_
          refine lv_aload_n hx hb dX1_findMin_23 rfl (lv_at hl 0 rfl) ?_
          refine x1_g7 S Y dX1_findMin_24 ?_
          refine lv_iload_n hx hb dX1_findMin_27 rfl (lv_at hl 1 rfl) ?_
          refine x1_l7 S Y h_h dX1_findMin_28 ?_
          refine lv_topi (fun v2 e_v2 => ?_)
          have e9 : (α 7 h.toNatClampNeg) = v2 := by rw [e_v2, ham 7 (by decide)]
          subst e9
          refine x1_l4 S Y (Pt_in h_p hc) dX1_findMin_29 ?_
          refine lv_iconst (v := 2) hx hb dX1_findMin_30 (by decide) ?_
          refine lv_icmp_ne (tgt := 40) hx hb dX1_findMin_31 (by decide) (fun c31 => ?_) (fun c31 => ?_)
          · skip
            refine lv_aload_n hx hb dX1_findMin_40 rfl (lv_at hl 0 rfl) ?_
            refine x1_g7 S Y dX1_findMin_41 ?_
            refine lv_iload_n hx hb dX1_findMin_44 rfl (lv_at hl 1 rfl) ?_
            refine x1_l7 S Y h_h dX1_findMin_45 ?_
            exact gIret S Y rfl (⟨by rw [e7, e9, ham 7 (by decide)], by rw [e9]; exact ham⟩) dX1_findMin_46
          · skip
            exact absurd (((congrFun (ham 4 (by decide)) _).trans hs).symm.trans c31) (by decide)
      · skip
        exact absurd c5 hz
    · skip
      refine lv_aload_n hx hb dX1_findMin_0 rfl (lv_at hl 0 rfl) ?_
      refine lv_iload_n hx hb dX1_findMin_1 rfl (lv_at hl 1 rfl) ?_
      refine gCallI (ci := 1) (As := [.int h]) (rest := []) S (wX1_g dA o q) Y hA (c1_isHeap l D dA o q σ α h nh ham e8 hnh) (cwV 1 S.2.2.2.2.1 (lw_V q249 q251 qs12 q26 q252) rfl rfl rfl (by decide +kernel) ⟨Nat.le_of_ble_eq_true rfl, Nat.le_of_ble_eq_true rfl⟩) rfl rfl rfl rfl hl.1 rfl (Nat.le_of_ble_eq_true rfl) dX1_findMin_2 ⟨Nat.le_refl _, Nat.le_refl _⟩ (fun r1 s1 H locs h_s1 Y => ?_)
      rw [h_s1.1] at Y
      have hz : ¬ r1 = 0 := by rcases h_s1.2 with ⟨h9, -⟩ | ⟨-, h9⟩; rw [h9]; decide; exact absurd hn h9
      refine lv_if_ne (tgt := 10) hx hb dX1_findMin_5 (by decide) (fun c5 => ?_) (fun c5 => ?_)
      · skip
        refine lv_aload_n hx hb dX1_findMin_10 rfl (lv_at hl 0 rfl) ?_
        refine x1_g7 S Y dX1_findMin_11 ?_
        refine lv_iload_n hx hb dX1_findMin_14 rfl (lv_at hl 1 rfl) ?_
        refine x1_l7 S Y h_h dX1_findMin_15 ?_
        refine lv_topi (fun v1 e_v1 => ?_)
        have e9 : (α 7 h.toNatClampNeg) = v1 := by rw [e_v1, ham 7 (by decide)]
        subst e9
        refine lv_if_lt (tgt := 40) hx hb dX1_findMin_16 (by decide) (fun c16 => ?_) (fun c16 => ?_)
        · skip
          exact absurd c16 hc
        · skip
          refine lv_aload_n hx hb dX1_findMin_19 rfl (lv_at hl 0 rfl) ?_
          refine x1_g4 S Y dX1_findMin_20 ?_
          refine lv_aload_n hx hb dX1_findMin_23 rfl (lv_at hl 0 rfl) ?_
          refine x1_g7 S Y dX1_findMin_24 ?_
          refine lv_iload_n hx hb dX1_findMin_27 rfl (lv_at hl 1 rfl) ?_
          refine x1_l7 S Y h_h dX1_findMin_28 ?_
          refine lv_topi (fun v2 e_v2 => ?_)
          have e9 : (α 7 h.toNatClampNeg) = v2 := by rw [e_v2, ham 7 (by decide)]
          subst e9
          refine x1_l4 S Y (Pt_in h_p hc) dX1_findMin_29 ?_
          refine lv_iconst (v := 2) hx hb dX1_findMin_30 (by decide) ?_
          refine lv_icmp_ne (tgt := 40) hx hb dX1_findMin_31 (by decide) (fun c31 => ?_) (fun c31 => ?_)
          · skip
            exact absurd (by rw [ham 4 (by decide)]; exact hs) c31
          · skip
            refine lv_aload_n hx hb dX1_findMin_34 rfl (lv_at hl 0 rfl) ?_
            refine lv_iload_n hx hb dX1_findMin_35 rfl (lv_at hl 1 rfl) ?_
            refine lv_iconst (v := 0) hx hb dX1_findMin_36 (by decide) ?_
            refine gCallV (ci := 1) (As := [.int h, .int 0]) (rest := []) S (wX1_g dA o q) Y hA (c1_clean l D dA o q σ α h 0 r2 α1 ham h_h hpu) (cwV 2 S.2.2.2.2.1 (lw_V q260 q262 qs14 q26 q263) rfl rfl rfl (by decide +kernel) ⟨Nat.le_of_ble_eq_true rfl, Nat.le_of_ble_eq_true rfl⟩) rfl rfl rfl rfl hl.1 rfl (Nat.le_of_ble_eq_true rfl) dX1_findMin_37 ⟨Nat.le_refl _, Nat.le_refl _⟩ (fun t1 H locs h_t1 Y => ?_)
            have ham1 : Am α' t1 := by rw [e9]; exact h_t1
            refine lv_aload_n hx hb dX1_findMin_40 rfl (lv_at hl 0 rfl) ?_
            refine x1_g7 S Y dX1_findMin_41 ?_
            refine lv_iload_n hx hb dX1_findMin_44 rfl (lv_at hl 1 rfl) ?_
            refine x1_l7 S Y h_h dX1_findMin_45 ?_
            exact gIret S Y rfl (⟨by rw [e7, ham1 7 (by decide)], ham1⟩) dX1_findMin_46
      · skip
        exact absurd c5 hz
set_option maxHeartbeats 4000000 in
set_option maxRecDepth 100000 in
/-- LeftistHeapsModel.deleteMin -/
theorem c1_deleteMin (l : Launch) (D : va_G) (dA : Nat → ClassId) (o : Nat) (q : Nat → Nat) (σ : CS) (α : CS) (h r : Int32) (α' : CS) (nh : Nat) (e8 : α 8 0 = nI nh) (hnh : nh ≤ 10) (ham : Am α σ) (hd : Dm α h r α') : gMi l D (wX1 dA o q) (tX1 dA) yX1_deleteMin cX1_deleteMin 3 (some .int) { frames := 5, cells := 0, slots := 0, locals := 116 } [.ref o, .int h] σ (fun r' σ' => r' = r ∧ Am α' σ') := by
  intro sz
  refine gEnter (own := RX1) (lv := [(0, .ref o), (1, .int h)]) (wX1_g dA o q) (by decide) rfl (Nat.le_of_ble_eq_true rfl) rfl (fun p e s m below meth c ls S hA Y hl => ?_)
  have hx := S.1
  have hb := S.2.1
  obtain ⟨c0, α1, hf, hd⟩ := hd
  rcases hd with ⟨hc, e7, e6, e9⟩ | ⟨hc, e7, h_h, h_c, h_f, r2, α2, hmd, e9⟩
  · skip
    refine lv_aload_n hx hb dX1_deleteMin_0 rfl (lv_at hl 0 rfl) ?_
    refine lv_iload_n hx hb dX1_deleteMin_1 rfl (lv_at hl 1 rfl) ?_
    refine gCallI (ci := 1) (As := [.int h]) (rest := []) S (wX1_g dA o q) Y hA (c1_findMin l D dA o q σ α h c0 α1 nh e8 hnh ham hf) (cwV 1 S.2.2.2.2.1 (lw_V q304 q297 q298 q26 q299) rfl rfl rfl (by decide +kernel) ⟨Nat.le_of_ble_eq_true rfl, Nat.le_of_ble_eq_true rfl⟩) rfl rfl rfl rfl hl.1 rfl (Nat.le_of_ble_eq_true rfl) dX1_deleteMin_2 ⟨Nat.le_refl _, Nat.le_refl _⟩ (fun r1 t1 H locs h_t1 Y => ?_)
    obtain ⟨e_r1, ham1⟩ := h_t1
    rw [e_r1]
    refine lv_istore_n (lv' := [(2, .int c0), (0, .ref o), (1, .int h)]) hx hb dX1_deleteMin_5 rfl hl (by decide) rfl (fun ls hl => ?_)
    refine lv_iload_n hx hb dX1_deleteMin_6 rfl (lv_at hl 0 rfl) ?_
    refine lv_if_lt (tgt := 37) hx hb dX1_deleteMin_7 (by decide) (fun c7 => ?_) (fun c7 => ?_)
    · skip
      refine lv_iload_n hx hb dX1_deleteMin_37 rfl (lv_at hl 0 rfl) ?_
      exact gIret S Y rfl (⟨e7.trans e6.symm, by rw [e9]; exact ham1⟩) dX1_deleteMin_38
    · skip
      exact absurd hc c7
  · skip
    refine lv_aload_n hx hb dX1_deleteMin_0 rfl (lv_at hl 0 rfl) ?_
    refine lv_iload_n hx hb dX1_deleteMin_1 rfl (lv_at hl 1 rfl) ?_
    refine gCallI (ci := 1) (As := [.int h]) (rest := []) S (wX1_g dA o q) Y hA (c1_findMin l D dA o q σ α h c0 α1 nh e8 hnh ham hf) (cwV 1 S.2.2.2.2.1 (lw_V q304 q297 q298 q26 q299) rfl rfl rfl (by decide +kernel) ⟨Nat.le_of_ble_eq_true rfl, Nat.le_of_ble_eq_true rfl⟩) rfl rfl rfl rfl hl.1 rfl (Nat.le_of_ble_eq_true rfl) dX1_deleteMin_2 ⟨Nat.le_refl _, Nat.le_refl _⟩ (fun r1 t1 H locs h_t1 Y => ?_)
    obtain ⟨e_r1, ham1⟩ := h_t1
    rw [e_r1]
    refine lv_istore_n (lv' := [(2, .int c0), (0, .ref o), (1, .int h)]) hx hb dX1_deleteMin_5 rfl hl (by decide) rfl (fun ls hl => ?_)
    refine lv_iload_n hx hb dX1_deleteMin_6 rfl (lv_at hl 0 rfl) ?_
    refine lv_if_lt (tgt := 37) hx hb dX1_deleteMin_7 (by decide) (fun c7 => ?_) (fun c7 => ?_)
    · skip
      exact absurd c7 hc
    · skip
      refine lv_aload_n hx hb dX1_deleteMin_10 rfl (lv_at hl 1 rfl) ?_
      refine lv_iload_n hx hb dX1_deleteMin_11 rfl (lv_at hl 0 rfl) ?_
      refine gCallV (ci := 1) (As := [.int c0]) (rest := []) S (wX1_g dA o q) Y hA (c1_letGo l D dA o q t1 c0 h_c (by rw [ham1 6 (by decide)]; exact h_f)) (cwV 1 S.2.2.2.2.1 (lw_V q268 q270 qs16 q26 q271) rfl rfl rfl (by decide +kernel) ⟨Nat.le_of_ble_eq_true rfl, Nat.le_of_ble_eq_true rfl⟩) rfl rfl rfl rfl hl.1 rfl (Nat.le_of_ble_eq_true rfl) dX1_deleteMin_12 ⟨Nat.le_refl _, Nat.le_refl _⟩ (fun t2 H locs h_t2 Y => ?_)
      have ham2 : Am (letgo c0 α1) t2 := by rw [h_t2]; exact Am_letgo ham1 c0
      refine lv_aload_n hx hb dX1_deleteMin_15 rfl (lv_at hl 1 rfl) ?_
      refine x1_g7 S Y dX1_deleteMin_16 ?_
      refine lv_iload_n hx hb dX1_deleteMin_19 rfl (lv_at hl 2 rfl) ?_
      refine lv_aload_n hx hb dX1_deleteMin_20 rfl (lv_at hl 1 rfl) ?_
      refine lv_aload_n hx hb dX1_deleteMin_21 rfl (lv_at hl 1 rfl) ?_
      refine x1_g1 S Y dX1_deleteMin_22 ?_
      refine lv_iload_n hx hb dX1_deleteMin_25 rfl (lv_at hl 0 rfl) ?_
      refine x1_l1 S Y h_c dX1_deleteMin_26 ?_
      refine lv_topi (fun v1 e_v1 => ?_)
      have e9 : (α1 1 c0.toNatClampNeg) = v1 := by rw [e_v1, ham2 1 (by decide)]; rfl
      subst e9
      refine lv_aload_n hx hb dX1_deleteMin_27 rfl (lv_at hl 1 rfl) ?_
      refine x1_g2 S Y dX1_deleteMin_28 ?_
      refine lv_iload_n hx hb dX1_deleteMin_31 rfl (lv_at hl 0 rfl) ?_
      refine x1_l2 S Y h_c dX1_deleteMin_32 ?_
      refine lv_topi (fun v2 e_v2 => ?_)
      have e9 : (α1 2 c0.toNatClampNeg) = v2 := by rw [e_v2, ham2 2 (by decide)]; rfl
      subst e9
      refine gCallI (ci := 1) (As := [.int (α1 1 c0.toNatClampNeg), .int (α1 2 c0.toNatClampNeg)]) (rest := [.int h, .ref (q 7)]) S (wX1_g dA o q) Y hA (c1_join l D dA o q t2 (letgo c0 α1) (α1 1 c0.toNatClampNeg) (α1 2 c0.toNatClampNeg) r2 α2 ham2 hmd) (cwV 2 S.2.2.2.2.1 (lw_V q280 q282 qs19 q26 q283) rfl rfl rfl (by decide +kernel) ⟨Nat.le_of_ble_eq_true rfl, Nat.le_of_ble_eq_true rfl⟩) rfl rfl rfl rfl hl.1 rfl (Nat.le_of_ble_eq_true rfl) dX1_deleteMin_33 ⟨Nat.le_refl _, Nat.le_refl _⟩ (fun r3 t3 H locs h_t3 Y => ?_)
      obtain ⟨e_r3, ham3, -, -⟩ := h_t3
      rw [e_r3]
      refine x1_s7 S Y h_h dX1_deleteMin_36 (fun t4 H locs e_t4 Y => ?_)
      refine lv_iload_n hx hb dX1_deleteMin_37 rfl (lv_at hl 0 rfl) ?_
      exact gIret S Y rfl (⟨e7.symm, by rw [e9, e_t4]; exact Am_top ham3 _ r2⟩) dX1_deleteMin_38
set_option maxHeartbeats 4000000 in
set_option maxRecDepth 100000 in
/-- LeftistHeapsModel.meld -/
theorem c1_meld (l : Launch) (D : va_G) (dA : Nat → ClassId) (o : Nat) (q : Nat → Nat) (σ : CS) (α : CS) (d1 s1 r : Int32) (α' : CS) (nh : Nat) (e8 : α 8 0 = nI nh) (hnh : nh ≤ 10) (ham : Am α σ) (hm : Ml α d1 s1 r α') : gMi l D (wX1 dA o q) (tX1 dA) yX1_meld cX1_meld 3 (some .int) { frames := 2, cells := 0, slots := 0, locals := 51 } [.ref o, .int d1, .int s1] σ (fun r' σ' => r' = r ∧ Am α' σ') := by
  intro sz
  refine gEnter (own := RX1) (lv := [(0, .ref o), (1, .int d1), (2, .int s1)]) (wX1_g dA o q) (by decide) rfl (Nat.le_of_ble_eq_true rfl) rfl (fun p e s m below meth c ls S hA Y hl => ?_)
  have hx := S.1
  have hb := S.2.1
  rcases hm with ⟨hn, e7, e9⟩ | ⟨hn, e7, h_d, h_s, r2, α1, hmd, e9⟩
  · skip
    refine lv_aload_n hx hb dX1_meld_0 rfl (lv_at hl 0 rfl) ?_
    refine lv_iload_n hx hb dX1_meld_1 rfl (lv_at hl 1 rfl) ?_
    refine gCallI (ci := 1) (As := [.int d1]) (rest := []) S (wX1_g dA o q) Y hA (c1_isHeap l D dA o q σ α d1 nh ham e8 hnh) (cwV 1 S.2.2.2.2.1 (lw_V q249 q251 qs12 q26 q252) rfl rfl rfl (by decide +kernel) ⟨Nat.le_of_ble_eq_true rfl, Nat.le_of_ble_eq_true rfl⟩) rfl rfl rfl rfl hl.1 rfl (Nat.le_of_ble_eq_true rfl) dX1_meld_2 ⟨Nat.le_refl _, Nat.le_refl _⟩ (fun r1 q1 H locs h_q1 Y => ?_)
    rw [h_q1.1] at Y
    have y_q1 : (¬ r1 = 0 ∧ isH α d1) ∨ (r1 = 0 ∧ ¬ isH α d1) := by rcases h_q1.2 with ⟨h9, h8⟩ | ⟨h9, h8⟩; exact Or.inl ⟨by rw [h9]; decide, h8⟩; exact Or.inr ⟨h9, h8⟩
    refine lv_if_eq (tgt := 21) hx hb dX1_meld_5 (by decide) (fun c5 => ?_) (fun c5 => ?_)
    · skip
      refine lv_iconst (v := (-1)) hx hb dX1_meld_21 (by decide) ?_
      exact gIret S Y rfl (⟨e7.symm, by rw [e9]; exact ham⟩) dX1_meld_22
    · skip
      refine lv_aload_n hx hb dX1_meld_8 rfl (lv_at hl 0 rfl) ?_
      refine lv_iload_n hx hb dX1_meld_9 rfl (lv_at hl 2 rfl) ?_
      refine gCallI (ci := 1) (As := [.int s1]) (rest := []) S (wX1_g dA o q) Y hA (c1_isHeap l D dA o q σ α s1 nh ham e8 hnh) (cwV 1 S.2.2.2.2.1 (lw_V q249 q251 qs12 q26 q252) rfl rfl rfl (by decide +kernel) ⟨Nat.le_of_ble_eq_true rfl, Nat.le_of_ble_eq_true rfl⟩) rfl rfl rfl rfl hl.1 rfl (Nat.le_of_ble_eq_true rfl) dX1_meld_10 ⟨Nat.le_refl _, Nat.le_refl _⟩ (fun r3 q2 H locs h_q2 Y => ?_)
      rw [h_q2.1] at Y
      have y_q2 : (¬ r3 = 0 ∧ isH α s1) ∨ (r3 = 0 ∧ ¬ isH α s1) := by rcases h_q2.2 with ⟨h9, h8⟩ | ⟨h9, h8⟩; exact Or.inl ⟨by rw [h9]; decide, h8⟩; exact Or.inr ⟨h9, h8⟩
      refine lv_if_eq (tgt := 21) hx hb dX1_meld_13 (by decide) (fun c13 => ?_) (fun c13 => ?_)
      · skip
        refine lv_iconst (v := (-1)) hx hb dX1_meld_21 (by decide) ?_
        exact gIret S Y rfl (⟨e7.symm, by rw [e9]; exact ham⟩) dX1_meld_22
      · skip
        refine lv_iload_n hx hb dX1_meld_16 rfl (lv_at hl 1 rfl) ?_
        refine lv_iload_n hx hb dX1_meld_17 rfl (lv_at hl 2 rfl) ?_
        refine lv_icmp_ne (tgt := 23) hx hb dX1_meld_18 (by decide) (fun c18 => ?_) (fun c18 => ?_)
        · skip
          exact absurd ⟨(y_q1.resolve_right (fun h9 => c5 h9.1)).2, (y_q2.resolve_right (fun h9 => c13 h9.1)).2, c18⟩ hn
        · skip
          refine lv_iconst (v := (-1)) hx hb dX1_meld_21 (by decide) ?_
          exact gIret S Y rfl (⟨e7.symm, by rw [e9]; exact ham⟩) dX1_meld_22
  · obtain ⟨hn1, hn2, hn3⟩ := hn
    refine lv_aload_n hx hb dX1_meld_0 rfl (lv_at hl 0 rfl) ?_
    refine lv_iload_n hx hb dX1_meld_1 rfl (lv_at hl 1 rfl) ?_
    refine gCallI (ci := 1) (As := [.int d1]) (rest := []) S (wX1_g dA o q) Y hA (c1_isHeap l D dA o q σ α d1 nh ham e8 hnh) (cwV 1 S.2.2.2.2.1 (lw_V q249 q251 qs12 q26 q252) rfl rfl rfl (by decide +kernel) ⟨Nat.le_of_ble_eq_true rfl, Nat.le_of_ble_eq_true rfl⟩) rfl rfl rfl rfl hl.1 rfl (Nat.le_of_ble_eq_true rfl) dX1_meld_2 ⟨Nat.le_refl _, Nat.le_refl _⟩ (fun r1 q1 H locs h_q1 Y => ?_)
    rw [h_q1.1] at Y
    have hz1 : ¬ r1 = 0 := by rcases h_q1.2 with ⟨h9, -⟩ | ⟨-, h9⟩; rw [h9]; decide; exact absurd hn1 h9
    refine lv_if_eq (tgt := 21) hx hb dX1_meld_5 (by decide) (fun c5 => ?_) (fun c5 => ?_)
    · skip
      exact absurd c5 hz1
    · skip
      refine lv_aload_n hx hb dX1_meld_8 rfl (lv_at hl 0 rfl) ?_
      refine lv_iload_n hx hb dX1_meld_9 rfl (lv_at hl 2 rfl) ?_
      refine gCallI (ci := 1) (As := [.int s1]) (rest := []) S (wX1_g dA o q) Y hA (c1_isHeap l D dA o q σ α s1 nh ham e8 hnh) (cwV 1 S.2.2.2.2.1 (lw_V q249 q251 qs12 q26 q252) rfl rfl rfl (by decide +kernel) ⟨Nat.le_of_ble_eq_true rfl, Nat.le_of_ble_eq_true rfl⟩) rfl rfl rfl rfl hl.1 rfl (Nat.le_of_ble_eq_true rfl) dX1_meld_10 ⟨Nat.le_refl _, Nat.le_refl _⟩ (fun r3 q2 H locs h_q2 Y => ?_)
      rw [h_q2.1] at Y
      have hz2 : ¬ r3 = 0 := by rcases h_q2.2 with ⟨h9, -⟩ | ⟨-, h9⟩; rw [h9]; decide; exact absurd hn2 h9
      refine lv_if_eq (tgt := 21) hx hb dX1_meld_13 (by decide) (fun c13 => ?_) (fun c13 => ?_)
      · skip
        exact absurd c13 hz2
      · skip
        refine lv_iload_n hx hb dX1_meld_16 rfl (lv_at hl 1 rfl) ?_
        refine lv_iload_n hx hb dX1_meld_17 rfl (lv_at hl 2 rfl) ?_
        refine lv_icmp_ne (tgt := 23) hx hb dX1_meld_18 (by decide) (fun c18 => ?_) (fun c18 => ?_)
        · skip
          refine lv_aload_n hx hb dX1_meld_23 rfl (lv_at hl 0 rfl) ?_
          refine x1_g7 S Y dX1_meld_24 ?_
          refine lv_iload_n hx hb dX1_meld_27 rfl (lv_at hl 1 rfl) ?_
          refine lv_aload_n hx hb dX1_meld_28 rfl (lv_at hl 0 rfl) ?_
          refine lv_aload_n hx hb dX1_meld_29 rfl (lv_at hl 0 rfl) ?_
          refine x1_g7 S Y dX1_meld_30 ?_
          refine lv_iload_n hx hb dX1_meld_33 rfl (lv_at hl 1 rfl) ?_
          refine x1_l7 S Y h_d dX1_meld_34 ?_
          refine lv_topi (fun v1 e_v1 => ?_)
          have e9 : (α 7 d1.toNatClampNeg) = v1 := by rw [e_v1, ham 7 (by decide)]
          subst e9
          refine lv_aload_n hx hb dX1_meld_35 rfl (lv_at hl 0 rfl) ?_
          refine x1_g7 S Y dX1_meld_36 ?_
          refine lv_iload_n hx hb dX1_meld_39 rfl (lv_at hl 2 rfl) ?_
          refine x1_l7 S Y h_s dX1_meld_40 ?_
          refine lv_topi (fun v2 e_v2 => ?_)
          have e9 : (α 7 s1.toNatClampNeg) = v2 := by rw [e_v2, ham 7 (by decide)]
          subst e9
          refine gCallI (ci := 1) (As := [.int (α 7 d1.toNatClampNeg), .int (α 7 s1.toNatClampNeg)]) (rest := [.int d1, .ref (q 7)]) S (wX1_g dA o q) Y hA (c1_join l D dA o q σ α (α 7 d1.toNatClampNeg) (α 7 s1.toNatClampNeg) r2 α1 ham hmd) (cwV 2 S.2.2.2.2.1 (lw_V q280 q282 qs19 q26 q283) rfl rfl rfl (by decide +kernel) ⟨Nat.le_of_ble_eq_true rfl, Nat.le_of_ble_eq_true rfl⟩) rfl rfl rfl rfl hl.1 rfl (Nat.le_of_ble_eq_true rfl) dX1_meld_41 ⟨Nat.le_refl _, Nat.le_refl _⟩ (fun r4 t1 H locs h_t1 Y => ?_)
          obtain ⟨e_r4, ham1, -, -⟩ := h_t1
          rw [e_r4]
          refine x1_s7 S Y h_d dX1_meld_44 (fun t2 H locs e_t2 Y => ?_)
          refine lv_aload_n hx hb dX1_meld_45 rfl (lv_at hl 0 rfl) ?_
          refine x1_g7 S Y dX1_meld_46 ?_
          refine lv_iload_n hx hb dX1_meld_49 rfl (lv_at hl 2 rfl) ?_
          refine lv_iconst (v := (-1)) hx hb dX1_meld_50 (by decide) ?_
          refine x1_s7 S Y h_s dX1_meld_51 (fun t3 H locs e_t3 Y => ?_)
          refine lv_iconst (v := 0) hx hb dX1_meld_52 (by decide) ?_
          have e6 : t3 = va_up (va_up t1 7 (upd (t1 7) d1.toNatClampNeg r2)) 7 (upd (va_up t1 7 (upd (t1 7) d1.toNatClampNeg r2) 7) s1.toNatClampNeg (-1)) := by rw [e_t3, e_t2]
          exact gIret S Y rfl (⟨e7.symm, by rw [e6, e9, show va_up α1 7 (upd (upd (α1 7) d1.toNatClampNeg r2) s1.toNatClampNeg (-1)) = va_up (va_up α1 7 (upd (α1 7) d1.toNatClampNeg r2)) 7 (upd (va_up α1 7 (upd (α1 7) d1.toNatClampNeg r2) 7) s1.toNatClampNeg (-1)) from (bx_uu α1 7 _ _).symm]; exact Am_top (Am_top ham1 d1.toNatClampNeg r2) s1.toNatClampNeg (-1)⟩) dX1_meld_53
        · skip
          exact absurd c18 hn3
set_option maxHeartbeats 4000000 in
set_option maxRecDepth 100000 in
/-- LeftistHeapsModel.insert -/
theorem c1_insert (l : Launch) (D : va_G) (dA : Nat → ClassId) (o : Nat) (q : Nat → Nat) (σ : CS) (α : CS) (h k r : Int32) (α' : CS) (nh : Nat) (e8 : α 8 0 = nI nh) (hnh : nh ≤ 10) (ham : Am α σ) (hi : In α h k r α') : gMi l D (wX1 dA o q) (tX1 dA) yX1_insert cX1_insert 4 (some .int) { frames := 5, cells := 0, slots := 0, locals := 116 } [.ref o, .int h, .int k] σ (fun r' σ' => r' = r ∧ Am α' σ') := by
  intro sz
  refine gEnter (own := RX1) (lv := [(0, .ref o), (1, .int h), (2, .int k)]) (wX1_g dA o q) (by decide) rfl (Nat.le_of_ble_eq_true rfl) rfl (fun p e s m below meth c ls S hA Y hl => ?_)
  have hx := S.1
  have hb := S.2.1
  have a6 : σ 6 0 = α 6 0 := by rw [ham 6 (by decide)]
  rcases hi with ⟨hn, e7, e9⟩ | ⟨hn, h_h, α1, hcl, hi⟩
  · skip
    refine lv_aload_n hx hb dX1_insert_0 rfl (lv_at hl 0 rfl) ?_
    refine lv_iload_n hx hb dX1_insert_1 rfl (lv_at hl 1 rfl) ?_
    refine gCallI (ci := 1) (As := [.int h]) (rest := []) S (wX1_g dA o q) Y hA (c1_isHeap l D dA o q σ α h nh ham e8 hnh) (cwV 1 S.2.2.2.2.1 (lw_V q249 q251 qs12 q26 q252) rfl rfl rfl (by decide +kernel) ⟨Nat.le_of_ble_eq_true rfl, Nat.le_of_ble_eq_true rfl⟩) rfl rfl rfl rfl hl.1 rfl (Nat.le_of_ble_eq_true rfl) dX1_insert_2 ⟨Nat.le_refl _, Nat.le_refl _⟩ (fun r1 s1 H locs h_s1 Y => ?_)
    rw [h_s1.1] at Y
    have hz : r1 = 0 := by rcases h_s1.2 with ⟨-, h9⟩ | ⟨h9, -⟩; exact absurd h9 hn; exact h9
    refine lv_if_ne (tgt := 10) hx hb dX1_insert_5 (by decide) (fun c5 => ?_) (fun c5 => ?_)
    · skip
      exact absurd hz c5
    · skip
      refine lv_iconst (v := (-1)) hx hb dX1_insert_8 (by decide) ?_
      exact gIret S Y rfl (⟨e7.symm, by rw [e9]; exact ham⟩) dX1_insert_9
  · rcases hcl with ⟨hf0, nh2, e82, hnh2, hcl⟩ | ⟨hf0, e1⟩
    · rcases hi with ⟨hf1, e7, e9⟩ | ⟨hf1, h_i, e_r, h_r, r2, α2, hmd, e9⟩
      · skip
        refine lv_aload_n hx hb dX1_insert_0 rfl (lv_at hl 0 rfl) ?_
        refine lv_iload_n hx hb dX1_insert_1 rfl (lv_at hl 1 rfl) ?_
        refine gCallI (ci := 1) (As := [.int h]) (rest := []) S (wX1_g dA o q) Y hA (c1_isHeap l D dA o q σ α h nh ham e8 hnh) (cwV 1 S.2.2.2.2.1 (lw_V q249 q251 qs12 q26 q252) rfl rfl rfl (by decide +kernel) ⟨Nat.le_of_ble_eq_true rfl, Nat.le_of_ble_eq_true rfl⟩) rfl rfl rfl rfl hl.1 rfl (Nat.le_of_ble_eq_true rfl) dX1_insert_2 ⟨Nat.le_refl _, Nat.le_refl _⟩ (fun r1 s1 H locs h_s1 Y => ?_)
        rw [h_s1.1] at Y
        have hz : ¬ r1 = 0 := by rcases h_s1.2 with ⟨h9, -⟩ | ⟨-, h9⟩; rw [h9]; decide; exact absurd hn h9
        refine lv_if_ne (tgt := 10) hx hb dX1_insert_5 (by decide) (fun c5 => ?_) (fun c5 => ?_)
        · skip
          refine lv_aload_n hx hb dX1_insert_10 rfl (lv_at hl 0 rfl) ?_
          refine x1_g6 S Y dX1_insert_11 ?_
          refine lv_if_ne (tgt := 21) hx hb dX1_insert_14 (by decide) (fun c14 => ?_) (fun c14 => ?_)
          · skip
            exact absurd (a6.trans hf0) c14
          · skip
            refine lv_aload_n hx hb dX1_insert_17 rfl (lv_at hl 0 rfl) ?_
            refine gCallV (ci := 1) (As := []) (rest := []) S (wX1_g dA o q) Y hA (c1_clearAll l D dA o q σ α α1 nh2 hnh2 e82 ham hcl) (cwV 0 S.2.2.2.2.1 (lw_V q256 q258 qs13 q26 q259) rfl rfl rfl (by decide +kernel) ⟨Nat.le_of_ble_eq_true rfl, Nat.le_of_ble_eq_true rfl⟩) rfl rfl rfl rfl hl.1 rfl (Nat.le_of_ble_eq_true rfl) dX1_insert_18 ⟨Nat.le_refl _, Nat.le_refl _⟩ (fun u1 H locs h_u1 Y => ?_)
            have ham1 := h_u1
            have b6 : u1 6 0 = α1 6 0 := by rw [ham1 6 (by decide)]
            refine lv_aload_n hx hb dX1_insert_21 rfl (lv_at hl 0 rfl) ?_
            refine x1_g6 S Y dX1_insert_22 ?_
            refine lv_if_ne (tgt := 31) hx hb dX1_insert_25 (by decide) (fun c25 => ?_) (fun c25 => ?_)
            · skip
              exact absurd (b6.trans hf1) c25
            · skip
              refine lv_bipush (v := (-2)) hx hb dX1_insert_28 (by decide) ?_
              exact gIret S Y rfl (⟨e7.symm, by rw [e9]; exact ham1⟩) dX1_insert_30
        · skip
          exact absurd c5 hz
      · skip
        refine lv_aload_n hx hb dX1_insert_0 rfl (lv_at hl 0 rfl) ?_
        refine lv_iload_n hx hb dX1_insert_1 rfl (lv_at hl 1 rfl) ?_
        refine gCallI (ci := 1) (As := [.int h]) (rest := []) S (wX1_g dA o q) Y hA (c1_isHeap l D dA o q σ α h nh ham e8 hnh) (cwV 1 S.2.2.2.2.1 (lw_V q249 q251 qs12 q26 q252) rfl rfl rfl (by decide +kernel) ⟨Nat.le_of_ble_eq_true rfl, Nat.le_of_ble_eq_true rfl⟩) rfl rfl rfl rfl hl.1 rfl (Nat.le_of_ble_eq_true rfl) dX1_insert_2 ⟨Nat.le_refl _, Nat.le_refl _⟩ (fun r1 s1 H locs h_s1 Y => ?_)
        rw [h_s1.1] at Y
        have hz : ¬ r1 = 0 := by rcases h_s1.2 with ⟨h9, -⟩ | ⟨-, h9⟩; rw [h9]; decide; exact absurd hn h9
        refine lv_if_ne (tgt := 10) hx hb dX1_insert_5 (by decide) (fun c5 => ?_) (fun c5 => ?_)
        · skip
          refine lv_aload_n hx hb dX1_insert_10 rfl (lv_at hl 0 rfl) ?_
          refine x1_g6 S Y dX1_insert_11 ?_
          refine lv_if_ne (tgt := 21) hx hb dX1_insert_14 (by decide) (fun c14 => ?_) (fun c14 => ?_)
          · skip
            exact absurd (a6.trans hf0) c14
          · skip
            refine lv_aload_n hx hb dX1_insert_17 rfl (lv_at hl 0 rfl) ?_
            refine gCallV (ci := 1) (As := []) (rest := []) S (wX1_g dA o q) Y hA (c1_clearAll l D dA o q σ α α1 nh2 hnh2 e82 ham hcl) (cwV 0 S.2.2.2.2.1 (lw_V q256 q258 qs13 q26 q259) rfl rfl rfl (by decide +kernel) ⟨Nat.le_of_ble_eq_true rfl, Nat.le_of_ble_eq_true rfl⟩) rfl rfl rfl rfl hl.1 rfl (Nat.le_of_ble_eq_true rfl) dX1_insert_18 ⟨Nat.le_refl _, Nat.le_refl _⟩ (fun u1 H locs h_u1 Y => ?_)
            have ham1 := h_u1
            have b6 : u1 6 0 = α1 6 0 := by rw [ham1 6 (by decide)]
            refine lv_aload_n hx hb dX1_insert_21 rfl (lv_at hl 0 rfl) ?_
            refine x1_g6 S Y dX1_insert_22 ?_
            refine lv_if_ne (tgt := 31) hx hb dX1_insert_25 (by decide) (fun c25 => ?_) (fun c25 => ?_)
            · skip
              refine lv_aload_n hx hb dX1_insert_31 rfl (lv_at hl 0 rfl) ?_
              refine lv_dup hx hb dX1_insert_32 rfl ?_
              refine x1_g6 S Y dX1_insert_33 ?_
              refine lv_iconst (v := 1) hx hb dX1_insert_36 (by decide) ?_
              refine lv_isub hx hb dX1_insert_37 ?_
              refine x1_p6 S Y dX1_insert_38 (fun t2 H locs e_t2 Y => ?_)
              refine lv_aload_n hx hb dX1_insert_41 rfl (lv_at hl 0 rfl) ?_
              refine x1_g5 S Y dX1_insert_42 ?_
              refine lv_aload_n hx hb dX1_insert_45 rfl (lv_at hl 0 rfl) ?_
              refine x1_g6 S Y dX1_insert_46 ?_
              refine x1_l5 S Y (by rw [e_t2]; show vp_in (u1 6 0 - 1) 60; rw [b6]; exact h_i) dX1_insert_49 ?_
              refine lv_topi (fun v1 e_v1 => ?_)
              have e9 : r = v1 := by rw [e_v1, e_t2]; show r = u1 5 (u1 6 0 - 1).toNatClampNeg; rw [ham1 5 (by decide), b6]; exact e_r
              subst e9
              refine lv_istore_n (lv' := [(3, .int r), (0, .ref o), (1, .int h), (2, .int k)]) hx hb dX1_insert_50 rfl hl (by decide) rfl (fun ls hl => ?_)
              refine lv_aload_n hx hb dX1_insert_51 rfl (lv_at hl 1 rfl) ?_
              refine x1_g4 S Y dX1_insert_52 ?_
              refine lv_iload_n hx hb dX1_insert_55 rfl (lv_at hl 0 rfl) ?_
              refine lv_iconst (v := 1) hx hb dX1_insert_56 (by decide) ?_
              refine x1_s4 S Y h_r dX1_insert_57 (fun t3 H locs e_t3 Y => ?_)
              refine lv_aload_n hx hb dX1_insert_58 rfl (lv_at hl 1 rfl) ?_
              refine x1_g0 S Y dX1_insert_59 ?_
              refine lv_iload_n hx hb dX1_insert_62 rfl (lv_at hl 0 rfl) ?_
              refine lv_iload_n hx hb dX1_insert_63 rfl (lv_at hl 3 rfl) ?_
              refine x1_s0 S Y h_r dX1_insert_64 (fun t4 H locs e_t4 Y => ?_)
              refine lv_aload_n hx hb dX1_insert_65 rfl (lv_at hl 1 rfl) ?_
              refine lv_iload_n hx hb dX1_insert_66 rfl (lv_at hl 0 rfl) ?_
              refine gCallV (ci := 1) (As := [.int r]) (rest := []) S (wX1_g dA o q) Y hA (c1_alone l D dA o q t4 r h_r) (cwV 1 S.2.2.2.2.1 (lw_V q272 q274 qs17 q26 q275) rfl rfl rfl (by decide +kernel) ⟨Nat.le_of_ble_eq_true rfl, Nat.le_of_ble_eq_true rfl⟩) rfl rfl rfl rfl hl.1 rfl (Nat.le_of_ble_eq_true rfl) dX1_insert_67 ⟨Nat.le_refl _, Nat.le_refl _⟩ (fun t5 H locs h_t5 Y => ?_)
              have ham5 : Am (take r k α1) t5 := by rw [h_t5]; exact ins_am ham1 e_t2 e_t3 e_t4
              refine lv_aload_n hx hb dX1_insert_70 rfl (lv_at hl 1 rfl) ?_
              refine x1_g7 S Y dX1_insert_71 ?_
              refine lv_iload_n hx hb dX1_insert_74 rfl (lv_at hl 2 rfl) ?_
              refine lv_aload_n hx hb dX1_insert_75 rfl (lv_at hl 1 rfl) ?_
              refine lv_aload_n hx hb dX1_insert_76 rfl (lv_at hl 1 rfl) ?_
              refine x1_g7 S Y dX1_insert_77 ?_
              refine lv_iload_n hx hb dX1_insert_80 rfl (lv_at hl 2 rfl) ?_
              refine x1_l7 S Y h_h dX1_insert_81 ?_
              refine lv_topi (fun v2 e_v2 => ?_)
              have e9 : (α1 7 h.toNatClampNeg) = v2 := by rw [e_v2, ham5 7 (by decide)]; rfl
              subst e9
              refine lv_iload_n hx hb dX1_insert_82 rfl (lv_at hl 0 rfl) ?_
              refine gCallI (ci := 1) (As := [.int (α1 7 h.toNatClampNeg), .int r]) (rest := [.int h, .ref (q 7)]) S (wX1_g dA o q) Y hA (c1_join l D dA o q t5 (take r k α1) (α1 7 h.toNatClampNeg) r r2 α2 ham5 hmd) (cwV 2 S.2.2.2.2.1 (lw_V q280 q282 qs19 q26 q283) rfl rfl rfl (by decide +kernel) ⟨Nat.le_of_ble_eq_true rfl, Nat.le_of_ble_eq_true rfl⟩) rfl rfl rfl rfl hl.1 rfl (Nat.le_of_ble_eq_true rfl) dX1_insert_83 ⟨Nat.le_refl _, Nat.le_refl _⟩ (fun r6 t6 H locs h_t6 Y => ?_)
              obtain ⟨e_r6, ham6, -, -⟩ := h_t6
              rw [e_r6]
              refine x1_s7 S Y h_h dX1_insert_86 (fun t7 H locs e_t7 Y => ?_)
              refine lv_iload_n hx hb dX1_insert_87 rfl (lv_at hl 0 rfl) ?_
              exact gIret S Y rfl (⟨rfl, by rw [e9, e_t7]; exact Am_top ham6 _ r2⟩) dX1_insert_88
            · skip
              exact absurd (b6.symm.trans c25) hf1
        · skip
          exact absurd c5 hz
    · rw [e1] at hi; rcases hi with ⟨hf1, e7, e9⟩ | ⟨hf1, h_i, e_r, h_r, r2, α2, hmd, e9⟩
      · skip
        refine lv_aload_n hx hb dX1_insert_0 rfl (lv_at hl 0 rfl) ?_
        refine lv_iload_n hx hb dX1_insert_1 rfl (lv_at hl 1 rfl) ?_
        refine gCallI (ci := 1) (As := [.int h]) (rest := []) S (wX1_g dA o q) Y hA (c1_isHeap l D dA o q σ α h nh ham e8 hnh) (cwV 1 S.2.2.2.2.1 (lw_V q249 q251 qs12 q26 q252) rfl rfl rfl (by decide +kernel) ⟨Nat.le_of_ble_eq_true rfl, Nat.le_of_ble_eq_true rfl⟩) rfl rfl rfl rfl hl.1 rfl (Nat.le_of_ble_eq_true rfl) dX1_insert_2 ⟨Nat.le_refl _, Nat.le_refl _⟩ (fun r1 s1 H locs h_s1 Y => ?_)
        rw [h_s1.1] at Y
        have hz : ¬ r1 = 0 := by rcases h_s1.2 with ⟨h9, -⟩ | ⟨-, h9⟩; rw [h9]; decide; exact absurd hn h9
        refine lv_if_ne (tgt := 10) hx hb dX1_insert_5 (by decide) (fun c5 => ?_) (fun c5 => ?_)
        · skip
          refine lv_aload_n hx hb dX1_insert_10 rfl (lv_at hl 0 rfl) ?_
          refine x1_g6 S Y dX1_insert_11 ?_
          refine lv_if_ne (tgt := 21) hx hb dX1_insert_14 (by decide) (fun c14 => ?_) (fun c14 => ?_)
          · skip
            have ham1 := ham
            have b6 := a6
            refine lv_aload_n hx hb dX1_insert_21 rfl (lv_at hl 0 rfl) ?_
            refine x1_g6 S Y dX1_insert_22 ?_
            refine lv_if_ne (tgt := 31) hx hb dX1_insert_25 (by decide) (fun c25 => ?_) (fun c25 => ?_)
            · skip
              exact absurd (b6.trans hf1) c25
            · skip
              refine lv_bipush (v := (-2)) hx hb dX1_insert_28 (by decide) ?_
              exact gIret S Y rfl (⟨e7.symm, by rw [e9]; exact ham1⟩) dX1_insert_30
          · skip
            exact absurd (a6.symm.trans c14) hf0
        · skip
          exact absurd c5 hz
      · skip
        refine lv_aload_n hx hb dX1_insert_0 rfl (lv_at hl 0 rfl) ?_
        refine lv_iload_n hx hb dX1_insert_1 rfl (lv_at hl 1 rfl) ?_
        refine gCallI (ci := 1) (As := [.int h]) (rest := []) S (wX1_g dA o q) Y hA (c1_isHeap l D dA o q σ α h nh ham e8 hnh) (cwV 1 S.2.2.2.2.1 (lw_V q249 q251 qs12 q26 q252) rfl rfl rfl (by decide +kernel) ⟨Nat.le_of_ble_eq_true rfl, Nat.le_of_ble_eq_true rfl⟩) rfl rfl rfl rfl hl.1 rfl (Nat.le_of_ble_eq_true rfl) dX1_insert_2 ⟨Nat.le_refl _, Nat.le_refl _⟩ (fun r1 s1 H locs h_s1 Y => ?_)
        rw [h_s1.1] at Y
        have hz : ¬ r1 = 0 := by rcases h_s1.2 with ⟨h9, -⟩ | ⟨-, h9⟩; rw [h9]; decide; exact absurd hn h9
        refine lv_if_ne (tgt := 10) hx hb dX1_insert_5 (by decide) (fun c5 => ?_) (fun c5 => ?_)
        · skip
          refine lv_aload_n hx hb dX1_insert_10 rfl (lv_at hl 0 rfl) ?_
          refine x1_g6 S Y dX1_insert_11 ?_
          refine lv_if_ne (tgt := 21) hx hb dX1_insert_14 (by decide) (fun c14 => ?_) (fun c14 => ?_)
          · skip
            have ham1 := ham
            have b6 := a6
            refine lv_aload_n hx hb dX1_insert_21 rfl (lv_at hl 0 rfl) ?_
            refine x1_g6 S Y dX1_insert_22 ?_
            refine lv_if_ne (tgt := 31) hx hb dX1_insert_25 (by decide) (fun c25 => ?_) (fun c25 => ?_)
            · skip
              refine lv_aload_n hx hb dX1_insert_31 rfl (lv_at hl 0 rfl) ?_
              refine lv_dup hx hb dX1_insert_32 rfl ?_
              refine x1_g6 S Y dX1_insert_33 ?_
              refine lv_iconst (v := 1) hx hb dX1_insert_36 (by decide) ?_
              refine lv_isub hx hb dX1_insert_37 ?_
              refine x1_p6 S Y dX1_insert_38 (fun t2 H locs e_t2 Y => ?_)
              refine lv_aload_n hx hb dX1_insert_41 rfl (lv_at hl 0 rfl) ?_
              refine x1_g5 S Y dX1_insert_42 ?_
              refine lv_aload_n hx hb dX1_insert_45 rfl (lv_at hl 0 rfl) ?_
              refine x1_g6 S Y dX1_insert_46 ?_
              refine x1_l5 S Y (by rw [e_t2]; show vp_in (σ 6 0 - 1) 60; rw [b6]; exact h_i) dX1_insert_49 ?_
              refine lv_topi (fun v1 e_v1 => ?_)
              have e9 : r = v1 := by rw [e_v1, e_t2]; show r = σ 5 (σ 6 0 - 1).toNatClampNeg; rw [ham1 5 (by decide), b6]; exact e_r
              subst e9
              refine lv_istore_n (lv' := [(3, .int r), (0, .ref o), (1, .int h), (2, .int k)]) hx hb dX1_insert_50 rfl hl (by decide) rfl (fun ls hl => ?_)
              refine lv_aload_n hx hb dX1_insert_51 rfl (lv_at hl 1 rfl) ?_
              refine x1_g4 S Y dX1_insert_52 ?_
              refine lv_iload_n hx hb dX1_insert_55 rfl (lv_at hl 0 rfl) ?_
              refine lv_iconst (v := 1) hx hb dX1_insert_56 (by decide) ?_
              refine x1_s4 S Y h_r dX1_insert_57 (fun t3 H locs e_t3 Y => ?_)
              refine lv_aload_n hx hb dX1_insert_58 rfl (lv_at hl 1 rfl) ?_
              refine x1_g0 S Y dX1_insert_59 ?_
              refine lv_iload_n hx hb dX1_insert_62 rfl (lv_at hl 0 rfl) ?_
              refine lv_iload_n hx hb dX1_insert_63 rfl (lv_at hl 3 rfl) ?_
              refine x1_s0 S Y h_r dX1_insert_64 (fun t4 H locs e_t4 Y => ?_)
              refine lv_aload_n hx hb dX1_insert_65 rfl (lv_at hl 1 rfl) ?_
              refine lv_iload_n hx hb dX1_insert_66 rfl (lv_at hl 0 rfl) ?_
              refine gCallV (ci := 1) (As := [.int r]) (rest := []) S (wX1_g dA o q) Y hA (c1_alone l D dA o q t4 r h_r) (cwV 1 S.2.2.2.2.1 (lw_V q272 q274 qs17 q26 q275) rfl rfl rfl (by decide +kernel) ⟨Nat.le_of_ble_eq_true rfl, Nat.le_of_ble_eq_true rfl⟩) rfl rfl rfl rfl hl.1 rfl (Nat.le_of_ble_eq_true rfl) dX1_insert_67 ⟨Nat.le_refl _, Nat.le_refl _⟩ (fun t5 H locs h_t5 Y => ?_)
              have ham5 : Am (take r k α) t5 := by rw [h_t5]; exact ins_am ham1 e_t2 e_t3 e_t4
              refine lv_aload_n hx hb dX1_insert_70 rfl (lv_at hl 1 rfl) ?_
              refine x1_g7 S Y dX1_insert_71 ?_
              refine lv_iload_n hx hb dX1_insert_74 rfl (lv_at hl 2 rfl) ?_
              refine lv_aload_n hx hb dX1_insert_75 rfl (lv_at hl 1 rfl) ?_
              refine lv_aload_n hx hb dX1_insert_76 rfl (lv_at hl 1 rfl) ?_
              refine x1_g7 S Y dX1_insert_77 ?_
              refine lv_iload_n hx hb dX1_insert_80 rfl (lv_at hl 2 rfl) ?_
              refine x1_l7 S Y h_h dX1_insert_81 ?_
              refine lv_topi (fun v2 e_v2 => ?_)
              have e9 : (α 7 h.toNatClampNeg) = v2 := by rw [e_v2, ham5 7 (by decide)]; rfl
              subst e9
              refine lv_iload_n hx hb dX1_insert_82 rfl (lv_at hl 0 rfl) ?_
              refine gCallI (ci := 1) (As := [.int (α 7 h.toNatClampNeg), .int r]) (rest := [.int h, .ref (q 7)]) S (wX1_g dA o q) Y hA (c1_join l D dA o q t5 (take r k α) (α 7 h.toNatClampNeg) r r2 α2 ham5 hmd) (cwV 2 S.2.2.2.2.1 (lw_V q280 q282 qs19 q26 q283) rfl rfl rfl (by decide +kernel) ⟨Nat.le_of_ble_eq_true rfl, Nat.le_of_ble_eq_true rfl⟩) rfl rfl rfl rfl hl.1 rfl (Nat.le_of_ble_eq_true rfl) dX1_insert_83 ⟨Nat.le_refl _, Nat.le_refl _⟩ (fun r6 t6 H locs h_t6 Y => ?_)
              obtain ⟨e_r6, ham6, -, -⟩ := h_t6
              rw [e_r6]
              refine x1_s7 S Y h_h dX1_insert_86 (fun t7 H locs e_t7 Y => ?_)
              refine lv_iload_n hx hb dX1_insert_87 rfl (lv_at hl 0 rfl) ?_
              exact gIret S Y rfl (⟨rfl, by rw [e9, e_t7]; exact Am_top ham6 _ r2⟩) dX1_insert_88
            · skip
              exact absurd (b6.symm.trans c25) hf1
          · skip
            exact absurd (a6.symm.trans c14) hf0
        · skip
          exact absurd c5 hz
end
section
set_option maxHeartbeats 4000000 in
set_option maxRecDepth 100000 in
/-- LeftistHeapsModel(): its arrays are made, then init -/
theorem c1_new (l : Launch) (D : va_G) (o sz : Nat) : Met l yX1_init (ws_ yX1_init cX1_init 1 none) { frames := 1, cells := 10, slots := 562, locals := 21 } (va_Pc [.ref o] (fun U => U.heap.size = sz ∧ va_P D vwCl [(o, .inr (1, [.null, .null, .null, .null, .null, .null, .int 0, .null, .int 0, .null, .null, .null, .int 0]))] U.heap ∧ va_K D vwCl [] U ∧ va_D (fun _ => True) [(o, .inr (1, [.null, .null, .null, .null, .null, .null, .int 0, .null, .int 0, .null, .null, .null, .int 0]))])) (va_Qv (fun u : (Nat → ClassId) × (Nat → Nat) × CS => u.2.2 5 = ipile 60 (fun _ => 0) ∧ u.2.2 4 = zst 60 (fun _ => 0) ∧ u.2.2 6 = (fun _ => 60) ∧ u.2.2 8 = (fun _ => 0) ∧ Ex [4, 5, 6, 8] (fun _ _ => 0) u.2.2) (fun u t => gAf D (wX1 u.1 o u.2.1) (tX1 u.1) (va_A [(o, .inr (1, [.null, .null, .null, .null, .null, .null, .int 0, .null, .int 0, .null, .null, .null, .int 0]))] sz) u.2.2 t) (va_A [(o, .inr (1, [.null, .null, .null, .null, .null, .null, .int 0, .null, .int 0, .null, .null, .null, .int 0]))] sz)) 10 562 (va_A [(o, .inr (1, [.null, .null, .null, .null, .null, .null, .int 0, .null, .int 0, .null, .null, .null, .int 0]))] sz) := by
  refine Met.ofW (cc := cX1_init) (maxL := 1) (ret := none) (by decide) rfl ?_
  intro p e s m args below meth c s₁ B hml hv
  obtain ⟨rfl, hsz, hP, hK, hD0⟩ := hv
  have hx := B.exec
  have hb := B.bytes
  have hr := B.returns
  have hts := atoms_spec (ws := ws_ yX1_init cX1_init 1 none) B.pre
  have hts : ∀ w ∈ lw_all, w.before _ s = true := fun w h => hts w (List.mem_cons_of_mem _ h)
  have hown : s.vm.findClass RX1 = some m.cls := findClass_of_methodNamed B.named
  have hlocks := B.notSynchronized
  have hin : meth.name = "<init>" := (name_of_methodNamed B.named B.method).1
  subst hsz
  have hD := hD0.self (sz := s.heap.size)
  generalize hAe : va_A [(o, .inr (1, [.null, .null, .null, .null, .null, .null, .int 0, .null, .int 0, .null, .null, .null, .int 0]))] s.heap.size = A at hD ⊢
  have hA : ∀ q : Nat, s.heap.size ≤ q → A q := fun q h => by rw [← hAe]; exact Or.inr h
  have hS : va_S A s.heap s.heap [] := va_S.rf
  have hl := lv_entry ([.ref o]) (n := 1) (Nat.le_of_ble_eq_true rfl)
  rw [lg_entry_eq]
  generalize (lg_sl ([.ref o]) ++ List.replicate (1 - (lg_sl ([.ref o])).length) Slot.unset).toArray = ls at hl ⊢
  have hl : lv_has ls 1 [(0, .ref o)] := hl
  refine lv_aload_n hx hb dX1_init_0 rfl (lv_at hl 0 rfl) ?_
  refine W.objInit hx hb hown (hts _ q195) (hts _ q33) (hts _ q34) rfl (by rw [hml]; exact hl.1) rfl dX1_init_1 (Nat.le_of_ble_eq_true rfl) (Nat.le_of_ble_eq_true rfl) ?_
  refine W.eq (g2 := F0 m 4 ls []) rfl ?_
  refine lv_aload_n hx hb dX1_init_4 rfl (lv_at hl 0 rfl) ?_
  refine lv_bipush (v := 60) hx hb dX1_init_5 (by decide) ?_
  refine va_newa (atype := .int) (a0 := (60, .inl (fun _ => 0))) hx hb (hts _ q94) (ty := .int) rfl hK hP hD hS hA (fun _ => rfl) (by decide) (by decide) (by decide) (Nat.le_of_ble_eq_true rfl) (Nat.le_of_ble_eq_true rfl) dX1_init_7 (fun b0 a0 H hK hP hD hS => ?_)
  refine W.widen (k := 1) (n := 60) (Nat.le_of_ble_eq_true rfl) (Nat.le_of_ble_eq_true rfl) ?_
  have hK : va_K D vwCl [(a0, .int)] s := hK
  refine va_putF (D := D) (ci := 1) (v := .ref b0) (ty := .array .int) (C := RX1) (T := TX1) (N := 13) hx hb hts in_X1 tyX1 tyX1_ok nmX1 hown hK hP hD hS 0 rfl rfl 0 (by decide) (hts _ q200) (fun _ h9 => h9) rfl hin rfl (by decide +kernel) rfl rfl (Nat.le_of_ble_eq_true rfl) dX1_init_9 (fun H locs hP hD hS => ?_)
  have hP : va_P D vwCl [(o, .inr (1, [.ref b0, .null, .null, .null, .null, .null, .int 0, .null, .int 0, .null, .null, .null, .int 0])), (b0, .inl (a0, 60, .inl (fun _ => 0)))] H := hP
  have hD : va_D A [(o, .inr (1, [.ref b0, .null, .null, .null, .null, .null, .int 0, .null, .int 0, .null, .null, .null, .int 0])), (b0, .inl (a0, 60, .inl (fun _ => 0)))] := hD
  refine lv_aload_n hx hb dX1_init_12 rfl (lv_at hl 0 rfl) ?_
  refine lv_bipush (v := 60) hx hb dX1_init_13 (by decide) ?_
  refine va_newa (atype := .int) (a0 := (60, .inl (fun _ => 0))) hx hb (hts _ q94) (ty := .int) rfl hK hP hD hS hA (fun _ => rfl) (by decide) (by decide) (by decide) (Nat.le_of_ble_eq_true rfl) (Nat.le_of_ble_eq_true rfl) dX1_init_15 (fun b1 a1 H hK hP hD hS => ?_)
  refine W.widen (k := 2) (n := 120) (Nat.le_of_ble_eq_true rfl) (Nat.le_of_ble_eq_true rfl) ?_
  have hK : va_K D vwCl [(a0, .int), (a1, .int)] s := hK
  refine va_putF (D := D) (ci := 1) (v := .ref b1) (ty := .array .int) (C := RX1) (T := TX1) (N := 13) hx hb hts in_X1 tyX1 tyX1_ok nmX1 hown hK hP hD hS 0 rfl rfl 1 (by decide) (hts _ q201) (fun _ h9 => h9) rfl hin rfl (by decide +kernel) rfl rfl (Nat.le_of_ble_eq_true rfl) dX1_init_17 (fun H locs hP hD hS => ?_)
  have hP : va_P D vwCl [(o, .inr (1, [.ref b0, .ref b1, .null, .null, .null, .null, .int 0, .null, .int 0, .null, .null, .null, .int 0])), (b0, .inl (a0, 60, .inl (fun _ => 0))), (b1, .inl (a1, 60, .inl (fun _ => 0)))] H := hP
  have hD : va_D A [(o, .inr (1, [.ref b0, .ref b1, .null, .null, .null, .null, .int 0, .null, .int 0, .null, .null, .null, .int 0])), (b0, .inl (a0, 60, .inl (fun _ => 0))), (b1, .inl (a1, 60, .inl (fun _ => 0)))] := hD
  refine lv_aload_n hx hb dX1_init_20 rfl (lv_at hl 0 rfl) ?_
  refine lv_bipush (v := 60) hx hb dX1_init_21 (by decide) ?_
  refine va_newa (atype := .int) (a0 := (60, .inl (fun _ => 0))) hx hb (hts _ q94) (ty := .int) rfl hK hP hD hS hA (fun _ => rfl) (by decide) (by decide) (by decide) (Nat.le_of_ble_eq_true rfl) (Nat.le_of_ble_eq_true rfl) dX1_init_23 (fun b2 a2 H hK hP hD hS => ?_)
  refine W.widen (k := 3) (n := 180) (Nat.le_of_ble_eq_true rfl) (Nat.le_of_ble_eq_true rfl) ?_
  have hK : va_K D vwCl [(a0, .int), (a1, .int), (a2, .int)] s := hK
  refine va_putF (D := D) (ci := 1) (v := .ref b2) (ty := .array .int) (C := RX1) (T := TX1) (N := 13) hx hb hts in_X1 tyX1 tyX1_ok nmX1 hown hK hP hD hS 0 rfl rfl 2 (by decide) (hts _ q202) (fun _ h9 => h9) rfl hin rfl (by decide +kernel) rfl rfl (Nat.le_of_ble_eq_true rfl) dX1_init_25 (fun H locs hP hD hS => ?_)
  have hP : va_P D vwCl [(o, .inr (1, [.ref b0, .ref b1, .ref b2, .null, .null, .null, .int 0, .null, .int 0, .null, .null, .null, .int 0])), (b0, .inl (a0, 60, .inl (fun _ => 0))), (b1, .inl (a1, 60, .inl (fun _ => 0))), (b2, .inl (a2, 60, .inl (fun _ => 0)))] H := hP
  have hD : va_D A [(o, .inr (1, [.ref b0, .ref b1, .ref b2, .null, .null, .null, .int 0, .null, .int 0, .null, .null, .null, .int 0])), (b0, .inl (a0, 60, .inl (fun _ => 0))), (b1, .inl (a1, 60, .inl (fun _ => 0))), (b2, .inl (a2, 60, .inl (fun _ => 0)))] := hD
  refine lv_aload_n hx hb dX1_init_28 rfl (lv_at hl 0 rfl) ?_
  refine lv_bipush (v := 60) hx hb dX1_init_29 (by decide) ?_
  refine va_newa (atype := .int) (a0 := (60, .inl (fun _ => 0))) hx hb (hts _ q94) (ty := .int) rfl hK hP hD hS hA (fun _ => rfl) (by decide) (by decide) (by decide) (Nat.le_of_ble_eq_true rfl) (Nat.le_of_ble_eq_true rfl) dX1_init_31 (fun b3 a3 H hK hP hD hS => ?_)
  refine W.widen (k := 4) (n := 240) (Nat.le_of_ble_eq_true rfl) (Nat.le_of_ble_eq_true rfl) ?_
  have hK : va_K D vwCl [(a0, .int), (a1, .int), (a2, .int), (a3, .int)] s := hK
  refine va_putF (D := D) (ci := 1) (v := .ref b3) (ty := .array .int) (C := RX1) (T := TX1) (N := 13) hx hb hts in_X1 tyX1 tyX1_ok nmX1 hown hK hP hD hS 0 rfl rfl 3 (by decide) (hts _ q203) (fun _ h9 => h9) rfl hin rfl (by decide +kernel) rfl rfl (Nat.le_of_ble_eq_true rfl) dX1_init_33 (fun H locs hP hD hS => ?_)
  have hP : va_P D vwCl [(o, .inr (1, [.ref b0, .ref b1, .ref b2, .ref b3, .null, .null, .int 0, .null, .int 0, .null, .null, .null, .int 0])), (b0, .inl (a0, 60, .inl (fun _ => 0))), (b1, .inl (a1, 60, .inl (fun _ => 0))), (b2, .inl (a2, 60, .inl (fun _ => 0))), (b3, .inl (a3, 60, .inl (fun _ => 0)))] H := hP
  have hD : va_D A [(o, .inr (1, [.ref b0, .ref b1, .ref b2, .ref b3, .null, .null, .int 0, .null, .int 0, .null, .null, .null, .int 0])), (b0, .inl (a0, 60, .inl (fun _ => 0))), (b1, .inl (a1, 60, .inl (fun _ => 0))), (b2, .inl (a2, 60, .inl (fun _ => 0))), (b3, .inl (a3, 60, .inl (fun _ => 0)))] := hD
  refine lv_aload_n hx hb dX1_init_36 rfl (lv_at hl 0 rfl) ?_
  refine lv_bipush (v := 60) hx hb dX1_init_37 (by decide) ?_
  refine va_newa (atype := .int) (a0 := (60, .inl (fun _ => 0))) hx hb (hts _ q94) (ty := .int) rfl hK hP hD hS hA (fun _ => rfl) (by decide) (by decide) (by decide) (Nat.le_of_ble_eq_true rfl) (Nat.le_of_ble_eq_true rfl) dX1_init_39 (fun b4 a4 H hK hP hD hS => ?_)
  refine W.widen (k := 5) (n := 300) (Nat.le_of_ble_eq_true rfl) (Nat.le_of_ble_eq_true rfl) ?_
  have hK : va_K D vwCl [(a0, .int), (a1, .int), (a2, .int), (a3, .int), (a4, .int)] s := hK
  refine va_putF (D := D) (ci := 1) (v := .ref b4) (ty := .array .int) (C := RX1) (T := TX1) (N := 13) hx hb hts in_X1 tyX1 tyX1_ok nmX1 hown hK hP hD hS 0 rfl rfl 4 (by decide) (hts _ q204) (fun _ h9 => h9) rfl hin rfl (by decide +kernel) rfl rfl (Nat.le_of_ble_eq_true rfl) dX1_init_41 (fun H locs hP hD hS => ?_)
  have hP : va_P D vwCl [(o, .inr (1, [.ref b0, .ref b1, .ref b2, .ref b3, .ref b4, .null, .int 0, .null, .int 0, .null, .null, .null, .int 0])), (b0, .inl (a0, 60, .inl (fun _ => 0))), (b1, .inl (a1, 60, .inl (fun _ => 0))), (b2, .inl (a2, 60, .inl (fun _ => 0))), (b3, .inl (a3, 60, .inl (fun _ => 0))), (b4, .inl (a4, 60, .inl (fun _ => 0)))] H := hP
  have hD : va_D A [(o, .inr (1, [.ref b0, .ref b1, .ref b2, .ref b3, .ref b4, .null, .int 0, .null, .int 0, .null, .null, .null, .int 0])), (b0, .inl (a0, 60, .inl (fun _ => 0))), (b1, .inl (a1, 60, .inl (fun _ => 0))), (b2, .inl (a2, 60, .inl (fun _ => 0))), (b3, .inl (a3, 60, .inl (fun _ => 0))), (b4, .inl (a4, 60, .inl (fun _ => 0)))] := hD
  refine lv_aload_n hx hb dX1_init_44 rfl (lv_at hl 0 rfl) ?_
  refine lv_bipush (v := 60) hx hb dX1_init_45 (by decide) ?_
  refine va_newa (atype := .int) (a0 := (60, .inl (fun _ => 0))) hx hb (hts _ q94) (ty := .int) rfl hK hP hD hS hA (fun _ => rfl) (by decide) (by decide) (by decide) (Nat.le_of_ble_eq_true rfl) (Nat.le_of_ble_eq_true rfl) dX1_init_47 (fun b5 a5 H hK hP hD hS => ?_)
  refine W.widen (k := 6) (n := 360) (Nat.le_of_ble_eq_true rfl) (Nat.le_of_ble_eq_true rfl) ?_
  have hK : va_K D vwCl [(a0, .int), (a1, .int), (a2, .int), (a3, .int), (a4, .int), (a5, .int)] s := hK
  refine va_putF (D := D) (ci := 1) (v := .ref b5) (ty := .array .int) (C := RX1) (T := TX1) (N := 13) hx hb hts in_X1 tyX1 tyX1_ok nmX1 hown hK hP hD hS 0 rfl rfl 5 (by decide) (hts _ q205) (fun _ h9 => h9) rfl hin rfl (by decide +kernel) rfl rfl (Nat.le_of_ble_eq_true rfl) dX1_init_49 (fun H locs hP hD hS => ?_)
  have hP : va_P D vwCl [(o, .inr (1, [.ref b0, .ref b1, .ref b2, .ref b3, .ref b4, .ref b5, .int 0, .null, .int 0, .null, .null, .null, .int 0])), (b0, .inl (a0, 60, .inl (fun _ => 0))), (b1, .inl (a1, 60, .inl (fun _ => 0))), (b2, .inl (a2, 60, .inl (fun _ => 0))), (b3, .inl (a3, 60, .inl (fun _ => 0))), (b4, .inl (a4, 60, .inl (fun _ => 0))), (b5, .inl (a5, 60, .inl (fun _ => 0)))] H := hP
  have hD : va_D A [(o, .inr (1, [.ref b0, .ref b1, .ref b2, .ref b3, .ref b4, .ref b5, .int 0, .null, .int 0, .null, .null, .null, .int 0])), (b0, .inl (a0, 60, .inl (fun _ => 0))), (b1, .inl (a1, 60, .inl (fun _ => 0))), (b2, .inl (a2, 60, .inl (fun _ => 0))), (b3, .inl (a3, 60, .inl (fun _ => 0))), (b4, .inl (a4, 60, .inl (fun _ => 0))), (b5, .inl (a5, 60, .inl (fun _ => 0)))] := hD
  refine lv_aload_n hx hb dX1_init_52 rfl (lv_at hl 0 rfl) ?_
  refine lv_bipush (v := 10) hx hb dX1_init_53 (by decide) ?_
  refine va_newa (atype := .int) (a0 := (10, .inl (fun _ => 0))) hx hb (hts _ q94) (ty := .int) rfl hK hP hD hS hA (fun _ => rfl) (by decide) (by decide) (by decide) (Nat.le_of_ble_eq_true rfl) (Nat.le_of_ble_eq_true rfl) dX1_init_55 (fun b7 a7 H hK hP hD hS => ?_)
  refine W.widen (k := 7) (n := 370) (Nat.le_of_ble_eq_true rfl) (Nat.le_of_ble_eq_true rfl) ?_
  have hK : va_K D vwCl [(a0, .int), (a1, .int), (a2, .int), (a3, .int), (a4, .int), (a5, .int), (a7, .int)] s := hK
  refine va_putF (D := D) (ci := 1) (v := .ref b7) (ty := .array .int) (C := RX1) (T := TX1) (N := 13) hx hb hts in_X1 tyX1 tyX1_ok nmX1 hown hK hP hD hS 0 rfl rfl 7 (by decide) (hts _ q207) (fun _ h9 => h9) rfl hin rfl (by decide +kernel) rfl rfl (Nat.le_of_ble_eq_true rfl) dX1_init_57 (fun H locs hP hD hS => ?_)
  have hP : va_P D vwCl [(o, .inr (1, [.ref b0, .ref b1, .ref b2, .ref b3, .ref b4, .ref b5, .int 0, .ref b7, .int 0, .null, .null, .null, .int 0])), (b0, .inl (a0, 60, .inl (fun _ => 0))), (b1, .inl (a1, 60, .inl (fun _ => 0))), (b2, .inl (a2, 60, .inl (fun _ => 0))), (b3, .inl (a3, 60, .inl (fun _ => 0))), (b4, .inl (a4, 60, .inl (fun _ => 0))), (b5, .inl (a5, 60, .inl (fun _ => 0))), (b7, .inl (a7, 10, .inl (fun _ => 0)))] H := hP
  have hD : va_D A [(o, .inr (1, [.ref b0, .ref b1, .ref b2, .ref b3, .ref b4, .ref b5, .int 0, .ref b7, .int 0, .null, .null, .null, .int 0])), (b0, .inl (a0, 60, .inl (fun _ => 0))), (b1, .inl (a1, 60, .inl (fun _ => 0))), (b2, .inl (a2, 60, .inl (fun _ => 0))), (b3, .inl (a3, 60, .inl (fun _ => 0))), (b4, .inl (a4, 60, .inl (fun _ => 0))), (b5, .inl (a5, 60, .inl (fun _ => 0))), (b7, .inl (a7, 10, .inl (fun _ => 0)))] := hD
  refine lv_aload_n hx hb dX1_init_60 rfl (lv_at hl 0 rfl) ?_
  refine lv_bipush (v := 64) hx hb dX1_init_61 (by decide) ?_
  refine va_newa (atype := .int) (a0 := (64, .inl (fun _ => 0))) hx hb (hts _ q94) (ty := .int) rfl hK hP hD hS hA (fun _ => rfl) (by decide) (by decide) (by decide) (Nat.le_of_ble_eq_true rfl) (Nat.le_of_ble_eq_true rfl) dX1_init_63 (fun b9 a9 H hK hP hD hS => ?_)
  refine W.widen (k := 8) (n := 434) (Nat.le_of_ble_eq_true rfl) (Nat.le_of_ble_eq_true rfl) ?_
  have hK : va_K D vwCl [(a0, .int), (a1, .int), (a2, .int), (a3, .int), (a4, .int), (a5, .int), (a7, .int), (a9, .int)] s := hK
  refine va_putF (D := D) (ci := 1) (v := .ref b9) (ty := .array .int) (C := RX1) (T := TX1) (N := 13) hx hb hts in_X1 tyX1 tyX1_ok nmX1 hown hK hP hD hS 0 rfl rfl 9 (by decide) (hts _ q209) (fun _ h9 => h9) rfl hin rfl (by decide +kernel) rfl rfl (Nat.le_of_ble_eq_true rfl) dX1_init_65 (fun H locs hP hD hS => ?_)
  have hP : va_P D vwCl [(o, .inr (1, [.ref b0, .ref b1, .ref b2, .ref b3, .ref b4, .ref b5, .int 0, .ref b7, .int 0, .ref b9, .null, .null, .int 0])), (b0, .inl (a0, 60, .inl (fun _ => 0))), (b1, .inl (a1, 60, .inl (fun _ => 0))), (b2, .inl (a2, 60, .inl (fun _ => 0))), (b3, .inl (a3, 60, .inl (fun _ => 0))), (b4, .inl (a4, 60, .inl (fun _ => 0))), (b5, .inl (a5, 60, .inl (fun _ => 0))), (b7, .inl (a7, 10, .inl (fun _ => 0))), (b9, .inl (a9, 64, .inl (fun _ => 0)))] H := hP
  have hD : va_D A [(o, .inr (1, [.ref b0, .ref b1, .ref b2, .ref b3, .ref b4, .ref b5, .int 0, .ref b7, .int 0, .ref b9, .null, .null, .int 0])), (b0, .inl (a0, 60, .inl (fun _ => 0))), (b1, .inl (a1, 60, .inl (fun _ => 0))), (b2, .inl (a2, 60, .inl (fun _ => 0))), (b3, .inl (a3, 60, .inl (fun _ => 0))), (b4, .inl (a4, 60, .inl (fun _ => 0))), (b5, .inl (a5, 60, .inl (fun _ => 0))), (b7, .inl (a7, 10, .inl (fun _ => 0))), (b9, .inl (a9, 64, .inl (fun _ => 0)))] := hD
  refine lv_aload_n hx hb dX1_init_68 rfl (lv_at hl 0 rfl) ?_
  refine lv_bipush (v := 64) hx hb dX1_init_69 (by decide) ?_
  refine va_newa (atype := .int) (a0 := (64, .inl (fun _ => 0))) hx hb (hts _ q94) (ty := .int) rfl hK hP hD hS hA (fun _ => rfl) (by decide) (by decide) (by decide) (Nat.le_of_ble_eq_true rfl) (Nat.le_of_ble_eq_true rfl) dX1_init_71 (fun b10 a10 H hK hP hD hS => ?_)
  refine W.widen (k := 9) (n := 498) (Nat.le_of_ble_eq_true rfl) (Nat.le_of_ble_eq_true rfl) ?_
  have hK : va_K D vwCl [(a0, .int), (a1, .int), (a2, .int), (a3, .int), (a4, .int), (a5, .int), (a7, .int), (a9, .int), (a10, .int)] s := hK
  refine va_putF (D := D) (ci := 1) (v := .ref b10) (ty := .array .int) (C := RX1) (T := TX1) (N := 13) hx hb hts in_X1 tyX1 tyX1_ok nmX1 hown hK hP hD hS 0 rfl rfl 10 (by decide) (hts _ q210) (fun _ h9 => h9) rfl hin rfl (by decide +kernel) rfl rfl (Nat.le_of_ble_eq_true rfl) dX1_init_73 (fun H locs hP hD hS => ?_)
  have hP : va_P D vwCl [(o, .inr (1, [.ref b0, .ref b1, .ref b2, .ref b3, .ref b4, .ref b5, .int 0, .ref b7, .int 0, .ref b9, .ref b10, .null, .int 0])), (b0, .inl (a0, 60, .inl (fun _ => 0))), (b1, .inl (a1, 60, .inl (fun _ => 0))), (b2, .inl (a2, 60, .inl (fun _ => 0))), (b3, .inl (a3, 60, .inl (fun _ => 0))), (b4, .inl (a4, 60, .inl (fun _ => 0))), (b5, .inl (a5, 60, .inl (fun _ => 0))), (b7, .inl (a7, 10, .inl (fun _ => 0))), (b9, .inl (a9, 64, .inl (fun _ => 0))), (b10, .inl (a10, 64, .inl (fun _ => 0)))] H := hP
  have hD : va_D A [(o, .inr (1, [.ref b0, .ref b1, .ref b2, .ref b3, .ref b4, .ref b5, .int 0, .ref b7, .int 0, .ref b9, .ref b10, .null, .int 0])), (b0, .inl (a0, 60, .inl (fun _ => 0))), (b1, .inl (a1, 60, .inl (fun _ => 0))), (b2, .inl (a2, 60, .inl (fun _ => 0))), (b3, .inl (a3, 60, .inl (fun _ => 0))), (b4, .inl (a4, 60, .inl (fun _ => 0))), (b5, .inl (a5, 60, .inl (fun _ => 0))), (b7, .inl (a7, 10, .inl (fun _ => 0))), (b9, .inl (a9, 64, .inl (fun _ => 0))), (b10, .inl (a10, 64, .inl (fun _ => 0)))] := hD
  refine lv_aload_n hx hb dX1_init_76 rfl (lv_at hl 0 rfl) ?_
  refine lv_bipush (v := 64) hx hb dX1_init_77 (by decide) ?_
  refine va_newa (atype := .int) (a0 := (64, .inl (fun _ => 0))) hx hb (hts _ q94) (ty := .int) rfl hK hP hD hS hA (fun _ => rfl) (by decide) (by decide) (by decide) (Nat.le_of_ble_eq_true rfl) (Nat.le_of_ble_eq_true rfl) dX1_init_79 (fun b11 a11 H hK hP hD hS => ?_)
  refine W.widen (k := 10) (n := 562) (Nat.le_of_ble_eq_true rfl) (Nat.le_of_ble_eq_true rfl) ?_
  have hK : va_K D vwCl [(a0, .int), (a1, .int), (a2, .int), (a3, .int), (a4, .int), (a5, .int), (a7, .int), (a9, .int), (a10, .int), (a11, .int)] s := hK
  refine va_putF (D := D) (ci := 1) (v := .ref b11) (ty := .array .int) (C := RX1) (T := TX1) (N := 13) hx hb hts in_X1 tyX1 tyX1_ok nmX1 hown hK hP hD hS 0 rfl rfl 11 (by decide) (hts _ q211) (fun _ h9 => h9) rfl hin rfl (by decide +kernel) rfl rfl (Nat.le_of_ble_eq_true rfl) dX1_init_81 (fun H locs hP hD hS => ?_)
  have hP : va_P D vwCl [(o, .inr (1, [.ref b0, .ref b1, .ref b2, .ref b3, .ref b4, .ref b5, .int 0, .ref b7, .int 0, .ref b9, .ref b10, .ref b11, .int 0])), (b0, .inl (a0, 60, .inl (fun _ => 0))), (b1, .inl (a1, 60, .inl (fun _ => 0))), (b2, .inl (a2, 60, .inl (fun _ => 0))), (b3, .inl (a3, 60, .inl (fun _ => 0))), (b4, .inl (a4, 60, .inl (fun _ => 0))), (b5, .inl (a5, 60, .inl (fun _ => 0))), (b7, .inl (a7, 10, .inl (fun _ => 0))), (b9, .inl (a9, 64, .inl (fun _ => 0))), (b10, .inl (a10, 64, .inl (fun _ => 0))), (b11, .inl (a11, 64, .inl (fun _ => 0)))] H := hP
  have hD : va_D A [(o, .inr (1, [.ref b0, .ref b1, .ref b2, .ref b3, .ref b4, .ref b5, .int 0, .ref b7, .int 0, .ref b9, .ref b10, .ref b11, .int 0])), (b0, .inl (a0, 60, .inl (fun _ => 0))), (b1, .inl (a1, 60, .inl (fun _ => 0))), (b2, .inl (a2, 60, .inl (fun _ => 0))), (b3, .inl (a3, 60, .inl (fun _ => 0))), (b4, .inl (a4, 60, .inl (fun _ => 0))), (b5, .inl (a5, 60, .inl (fun _ => 0))), (b7, .inl (a7, 10, .inl (fun _ => 0))), (b9, .inl (a9, 64, .inl (fun _ => 0))), (b10, .inl (a10, 64, .inl (fun _ => 0))), (b11, .inl (a11, 64, .inl (fun _ => 0)))] := hD
  refine lv_aload_n hx hb dX1_init_84 rfl (lv_at hl 0 rfl) ?_
  obtain ⟨q, hq⟩ : ∃ q : Nat → Nat, q = fun k => ([b0, b1, b2, b3, b4, b5, 0, b7, 0, b9, b10, b11, 0] : List Nat).getD k 0 := ⟨_, rfl⟩
  obtain ⟨dA, hdA⟩ : ∃ dA : Nat → ClassId, dA = fun k => ([a0, a1, a2, a3, a4, a5, 0, a7, 0, a9, a10, a11, 0] : List ClassId).getD k 0 := ⟨_, rfl⟩
  have Y : gP D (wX1 dA o q) A s.heap (fun _ _ => 0) H locs := by rw [hq, hdA]; exact ⟨hP, hD, hS⟩
  have hK : va_K D vwCl (tX1 dA) s := by rw [hdA]; exact hK
  refine gCallV (ci := 1) (As := []) (rest := []) ⟨hx, hb, hml, hown, hts, hK, hr, hlocks⟩ (wX1_g dA o q) Y hA (c1_init2 l D dA o q (fun _ _ => 0)) (cwV 0 hts (lw_V q196 q197 q198 q26 q199) rfl rfl rfl (by decide +kernel) ⟨Nat.le_of_ble_eq_true rfl, Nat.le_of_ble_eq_true rfl⟩) rfl rfl rfl rfl hl.1 rfl (Nat.le_of_ble_eq_true rfl) dX1_init_85 ⟨Nat.le_of_ble_eq_true rfl, Nat.le_of_ble_eq_true rfl⟩ (fun σ1 H locs hp Y => ?_)
  exact W.vret hx hb hr (fun t ht hW => ⟨⟨(dA, q, σ1), rfl, hp, by rw [ht]; exact Y.1, va_K.moved hW.alike hK, Y.2.1⟩, Y.2.2.F ht⟩) Y.2.2.2.2 dX1_init_88
end
section
/-! TREES: a pointer and the list of its cells, in any order -/
def Tr (L R : Nat → Int32) : Nat → Int32 → List Nat → Prop
  | 0, p, cs => p = -1 ∧ cs = []
  | n + 1, p, cs => (p = -1 ∧ cs = []) ∨ ∃ (c : Nat) (l r : List Nat), p = nI c ∧ c < 60 ∧ cs.Perm (c :: (l ++ r)) ∧ Tr L R n (L c) l ∧ Tr L R n (R c) r
def TR (L R : Nat → Int32) (p : Int32) (cs : List Nat) : Prop := ∃ n, Tr L R n p cs
theorem Tr_s {L R : Nat → Int32} : ∀ (n : Nat) {p : Int32} {cs : List Nat}, Tr L R n p cs → Tr L R (n + 1) p cs
  | 0, p, cs, h => Or.inl h
  | n + 1, p, cs, h => by
    rcases h with h | ⟨c, l, r, h1, h2, h3, h4, h5⟩
    · exact Or.inl h
    · exact Or.inr ⟨c, l, r, h1, h2, h3, Tr_s n h4, Tr_s n h5⟩
theorem Tr_le {L R : Nat → Int32} {p : Int32} {cs : List Nat} {n : Nat} (h : Tr L R n p cs) : ∀ k : Nat, Tr L R (n + k) p cs
  | 0 => h
  | k + 1 => Tr_s _ (Tr_le h k)
theorem TR_nil {L R : Nat → Int32} : TR L R (-1) [] := ⟨0, rfl, rfl⟩
theorem TR_node {L R : Nat → Int32} {c : Nat} {l r cs : List Nat} (hc : c < 60) (hl : TR L R (L c) l) (hr : TR L R (R c) r) (hp : cs.Perm (c :: (l ++ r))) : TR L R (nI c) cs := by
  obtain ⟨n, hn⟩ := hl
  obtain ⟨m, hm⟩ := hr
  have h1 := Tr_le hn m
  have h2 := Tr_le hm n
  rw [Nat.add_comm] at h2
  exact ⟨n + m + 1, Or.inr ⟨c, l, r, rfl, hc, hp, h1, h2⟩⟩
theorem TR_cases {L R : Nat → Int32} {p : Int32} {cs : List Nat} (h : TR L R p cs) : (p = -1 ∧ cs = []) ∨ ∃ (c : Nat) (l r : List Nat), p = nI c ∧ c < 60 ∧ cs.Perm (c :: (l ++ r)) ∧ TR L R (L c) l ∧ TR L R (R c) r := by
  obtain ⟨n, hn⟩ := h
  cases n with
  | zero => exact Or.inl hn
  | succ n =>
    rcases hn with h | ⟨c, l, r, h1, h2, h3, h4, h5⟩
    · exact Or.inl h
    · exact Or.inr ⟨c, l, r, h1, h2, h3, ⟨n, h4⟩, ⟨n, h5⟩⟩
theorem Tr_frame {L R L' R' : Nat → Int32} : ∀ (n : Nat) {p : Int32} {cs : List Nat}, Tr L R n p cs → (∀ c ∈ cs, L' c = L c ∧ R' c = R c) → Tr L' R' n p cs
  | 0, p, cs, h, _ => h
  | n + 1, p, cs, h, hf => by
    rcases h with h | ⟨c, l, r, h1, h2, h3, h4, h5⟩
    · exact Or.inl h
    · have hc := hf c (h3.mem_iff.mpr List.mem_cons_self)
      refine Or.inr ⟨c, l, r, h1, h2, h3, ?_, ?_⟩
      · rw [hc.1]
        exact Tr_frame n h4 (fun d hd => hf d (h3.mem_iff.mpr (List.mem_cons_of_mem _ (List.mem_append_left _ hd))))
      · rw [hc.2]
        exact Tr_frame n h5 (fun d hd => hf d (h3.mem_iff.mpr (List.mem_cons_of_mem _ (List.mem_append_right _ hd))))
theorem TR_frame {L R L' R' : Nat → Int32} {p : Int32} {cs : List Nat} (h : TR L R p cs) (hf : ∀ c ∈ cs, L' c = L c ∧ R' c = R c) : TR L' R' p cs := by
  obtain ⟨n, hn⟩ := h
  exact ⟨n, Tr_frame n hn hf⟩
theorem TR_perm {L R : Nat → Int32} {p : Int32} {cs cs' : List Nat} (h : TR L R p cs) (hp : cs'.Perm cs) : TR L R p cs' := by
  rcases TR_cases h with ⟨h1, h2⟩ | ⟨c, l, r, h1, h2, h3, h4, h5⟩
  · rw [h2] at hp
    rw [hp.eq_nil, h1]
    exact TR_nil
  · rw [h1]
    exact TR_node h2 h4 h5 (hp.trans h3)
theorem Tr_lt {L R : Nat → Int32} : ∀ (n : Nat) {p : Int32} {cs : List Nat}, Tr L R n p cs → ∀ c ∈ cs, c < 60
  | 0, p, cs, h => by rw [h.2]; intro c hc; exact (List.not_mem_nil hc).elim
  | n + 1, p, cs, h => by
    rcases h with h | ⟨c, l, r, h1, h2, h3, h4, h5⟩
    · rw [h.2]; intro c hc; exact (List.not_mem_nil hc).elim
    · intro d hd
      rcases List.mem_cons.mp (h3.mem_iff.mp hd) with e | hd
      · rw [e]; exact h2
      · rcases List.mem_append.mp hd with hd | hd
        · exact Tr_lt n h4 d hd
        · exact Tr_lt n h5 d hd
theorem TR_lt {L R : Nat → Int32} {p : Int32} {cs : List Nat} (h : TR L R p cs) : ∀ c ∈ cs, c < 60 := by
  obtain ⟨n, hn⟩ := h
  exact Tr_lt n hn
theorem nI_in60 {c : Nat} (h : c < 60) : vp_in (nI c) 60 := vp_in_nI h (by decide)
theorem nI_c60 {c : Nat} (h : c < 60) : (nI c).toNatClampNeg = c := nI_clamp (by omega)
theorem nI_n60 {c : Nat} (h : c < 60) : ¬ nI c < 0 := nI_pos (by omega)
theorem TR_Pt {L R : Nat → Int32} {p : Int32} {cs : List Nat} (h : TR L R p cs) : Pt p := by
  rcases TR_cases h with ⟨h1, -⟩ | ⟨c, l, r, h1, h2, -⟩
  · exact Or.inl h1
  · rw [h1]; exact Or.inr (nI_in60 h2)
theorem TR_neg {L R : Nat → Int32} {p : Int32} {cs : List Nat} (h : TR L R p cs) (hp : p < 0) : p = -1 ∧ cs = [] := by
  rcases TR_cases h with h1 | ⟨c, l, r, h1, h2, -⟩
  · exact h1
  · rw [h1] at hp; exact absurd hp (nI_n60 h2)
theorem TR_pos {L R : Nat → Int32} {p : Int32} {cs : List Nat} (h : TR L R p cs) (hp : ¬ p < 0) : ∃ (c : Nat) (l r : List Nat), p = nI c ∧ c < 60 ∧ cs.Perm (c :: (l ++ r)) ∧ TR L R (L c) l ∧ TR L R (R c) r := by
  rcases TR_cases h with h1 | h1
  · rw [h1.1] at hp; exact absurd m1_neg hp
  · exact h1
/-- one cell on the way up -/
theorem up1_tree {x : Nat} {p : Int32} {β : CS} {l r : List Nat} (hx : x < 60) (hl : TR (β 1) (β 2) (β 1 x) l) (hr : TR (β 1) (β 2) p r) (nl : x ∉ l) (nr : x ∉ r) :
    TR (up1 (nI x) p β 1) (up1 (nI x) p β 2) (nI x) (x :: (l ++ r)) ∧ ∀ k, k ≠ x → up1 (nI x) p β 1 k = β 1 k ∧ up1 (nI x) p β 2 k = β 2 k := by
  have hk : (nI x).toNatClampNeg = x := nI_c60 hx
  unfold up1
  rw [hk]
  split
  · have f : ∀ k, k ≠ x → upd (β 1) x p k = β 1 k ∧ upd (β 2) x (β 1 x) k = β 2 k := fun k h => ⟨pk_un h, pk_un h⟩
    refine ⟨?_, f⟩
    show TR (upd (β 1) x p) (upd (β 2) x (β 1 x)) (nI x) (x :: (l ++ r))
    refine TR_node (l := r) (r := l) hx ?_ ?_ (List.Perm.cons x List.perm_append_comm)
    · rw [pk_us]
      exact TR_frame hr (fun c hc => f c (fun e => nr (e ▸ hc)))
    · rw [pk_us]
      exact TR_frame hl (fun c hc => f c (fun e => nl (e ▸ hc)))
  · have f : ∀ k, k ≠ x → β 1 k = β 1 k ∧ upd (β 2) x p k = β 2 k := fun k h => ⟨rfl, pk_un h⟩
    refine ⟨?_, f⟩
    show TR (β 1) (upd (β 2) x p) (nI x) (x :: (l ++ r))
    refine TR_node (l := l) (r := r) hx ?_ ?_ (List.Perm.refl _)
    · exact TR_frame hl (fun c hc => f c (fun e => nl (e ▸ hc)))
    · rw [pk_us]
      exact TR_frame hr (fun c hc => f c (fun e => nr (e ▸ hc)))
/-- the melding of two trees whose cells are apart -/
theorem dn_core (α : CS) : ∀ (N : Nat) (a b : Int32) (ca cb : List Nat), ca.length + cb.length ≤ N → TR (α 1) (α 2) a ca → TR (α 1) (α 2) b cb → (ca ++ cb).Nodup →
    ∃ (stk : List Int32) (bl : Int32), Dn (α 0) (α 2) stk a b bl ∧ stk.length ≤ ca.length + cb.length ∧ TR ((upA stk bl α).2 1) ((upA stk bl α).2 2) (upA stk bl α).1 (ca ++ cb) ∧ (∀ k, k ∉ ca ++ cb → (upA stk bl α).2 1 k = α 1 k ∧ (upA stk bl α).2 2 k = α 2 k) ∧ ((upA stk bl α).1 = a ∨ (upA stk bl α).1 = b) := by
  intro N
  induction N with
  | zero =>
    intro a b ca cb hN ha hb hnd
    have e1 : ca = [] := List.eq_nil_of_length_eq_zero (by omega)
    have e2 : cb = [] := List.eq_nil_of_length_eq_zero (by omega)
    have ha1 : a = -1 := by
      rcases TR_cases ha with h | ⟨c, l, r, -, -, h3, -⟩
      · exact h.1
      · rw [e1] at h3; exact absurd h3.length_eq (by simp)
    refine ⟨[], b, ⟨Or.inl (by rw [ha1]; exact m1_neg), by rw [if_pos (by rw [ha1]; exact m1_neg)]⟩, Nat.zero_le _, ?_, fun k _ => ⟨rfl, rfl⟩, Or.inr rfl⟩
    rw [e1]; exact hb
  | succ N ih =>
    intro a b ca cb hN ha hb hnd
    by_cases hna : a < 0
    · obtain ⟨e1, e2⟩ := TR_neg ha hna
      refine ⟨[], b, ⟨Or.inl hna, by rw [if_pos hna]⟩, Nat.zero_le _, ?_, fun k _ => ⟨rfl, rfl⟩, Or.inr rfl⟩
      rw [e2]; exact hb
    by_cases hnb : b < 0
    · obtain ⟨e1, e2⟩ := TR_neg hb hnb
      refine ⟨[], a, ⟨Or.inr hnb, by rw [if_neg hna]⟩, Nat.zero_le _, ?_, fun k _ => ⟨rfl, rfl⟩, Or.inl rfl⟩
      rw [e2, List.append_nil]; exact ha
    obtain ⟨x, lx, rx, ea, hx, px, tlx, trx⟩ := TR_pos ha hna
    obtain ⟨y, ly, ry, eb, hy, py, tly, try_⟩ := TR_pos hb hnb
    by_cases hbf : bf (α 0) a b
    · have hlen := px.length_eq
      simp only [List.length_cons, List.length_append] at hlen
      have pall : (ca ++ cb).Perm (x :: (lx ++ (rx ++ cb))) := by
        refine (px.append_right cb).trans ?_
        rw [List.cons_append, List.append_assoc]
      have hnd2 := pall.nodup_iff.mp hnd
      rw [List.nodup_cons] at hnd2
      obtain ⟨n1, n2⟩ := hnd2
      have n3 := List.nodup_append.mp n2
      have nxl : x ∉ lx := fun h => n1 (List.mem_append_left _ h)
      have nxr : x ∉ rx ++ cb := fun h => n1 (List.mem_append_right _ h)
      have dis : ∀ c ∈ lx, c ∉ rx ++ cb := fun c hc hd => n3.2.2 c hc c hd rfl
      obtain ⟨stk, bl, h1, h2, h3, h4, -⟩ := ih (α 2 x) b rx cb (by omega) trx hb n3.2.1
      have hl9 : TR ((upA stk bl α).2 1) ((upA stk bl α).2 2) ((upA stk bl α).2 1 x) lx := by
        rw [(h4 x nxr).1]
        exact TR_frame tlx (fun c hc => h4 c (dis c hc))
      obtain ⟨g1, g2⟩ := up1_tree hx hl9 h3 nxl nxr
      refine ⟨a :: stk, bl, ⟨hna, hnb, Or.inl ⟨hbf, rfl, ?_⟩⟩, by simp only [List.length_cons]; omega, ?_, fun k hk => ?_, Or.inl rfl⟩
      · rw [ea, nI_c60 hx]; exact h1
      · show TR (up1 a (upA stk bl α).1 (upA stk bl α).2 1) (up1 a (upA stk bl α).1 (upA stk bl α).2 2) a (ca ++ cb)
        rw [ea]
        exact TR_perm g1 pall
      · show up1 a (upA stk bl α).1 (upA stk bl α).2 1 k = α 1 k ∧ up1 a (upA stk bl α).1 (upA stk bl α).2 2 k = α 2 k
        have hk2 : k ∉ x :: (lx ++ (rx ++ cb)) := fun h => hk (pall.mem_iff.mpr h)
        have hkx : k ≠ x := fun e => hk2 (e ▸ List.mem_cons_self)
        have hkr : k ∉ rx ++ cb := fun h => hk2 (List.mem_cons_of_mem _ (List.mem_append_right _ h))
        rw [ea, (g2 k hkx).1, (g2 k hkx).2]
        exact h4 k hkr
    · have hlen := py.length_eq
      simp only [List.length_cons, List.length_append] at hlen
      have pall : (ca ++ cb).Perm (y :: (ly ++ (ca ++ ry))) := by
        refine (py.append_left ca).trans ?_
        refine List.perm_middle.trans (List.Perm.cons y ?_)
        rw [← List.append_assoc, ← List.append_assoc]
        exact List.perm_append_comm.append_right ry
      have hnd2 := pall.nodup_iff.mp hnd
      rw [List.nodup_cons] at hnd2
      obtain ⟨n1, n2⟩ := hnd2
      have n3 := List.nodup_append.mp n2
      have nyl : y ∉ ly := fun h => n1 (List.mem_append_left _ h)
      have nyr : y ∉ ca ++ ry := fun h => n1 (List.mem_append_right _ h)
      have dis : ∀ c ∈ ly, c ∉ ca ++ ry := fun c hc hd => n3.2.2 c hc c hd rfl
      obtain ⟨stk, bl, h1, h2, h3, h4, -⟩ := ih a (α 2 y) ca ry (by omega) ha try_ n3.2.1
      have hl9 : TR ((upA stk bl α).2 1) ((upA stk bl α).2 2) ((upA stk bl α).2 1 y) ly := by
        rw [(h4 y nyr).1]
        exact TR_frame tly (fun c hc => h4 c (dis c hc))
      obtain ⟨g1, g2⟩ := up1_tree hy hl9 h3 nyl nyr
      refine ⟨b :: stk, bl, ⟨hna, hnb, Or.inr ⟨hbf, rfl, ?_⟩⟩, by simp only [List.length_cons]; omega, ?_, fun k hk => ?_, Or.inr rfl⟩
      · rw [eb, nI_c60 hy]; exact h1
      · show TR (up1 b (upA stk bl α).1 (upA stk bl α).2 1) (up1 b (upA stk bl α).1 (upA stk bl α).2 2) b (ca ++ cb)
        rw [eb]
        exact TR_perm g1 pall
      · show up1 b (upA stk bl α).1 (upA stk bl α).2 1 k = α 1 k ∧ up1 b (upA stk bl α).1 (upA stk bl α).2 2 k = α 2 k
        have hk2 : k ∉ y :: (ly ++ (ca ++ ry)) := fun h => hk (pall.mem_iff.mpr h)
        have hky : k ≠ y := fun e => hk2 (e ▸ List.mem_cons_self)
        have hkr : k ∉ ca ++ ry := fun h => hk2 (List.mem_cons_of_mem _ (List.mem_append_right _ h))
        rw [eb, (g2 k hky).1, (g2 k hky).2]
        exact h4 k hkr
/-- what lies below n, once each, is at most n long -/
theorem nd_len : ∀ (n : Nat) (l : List Nat), l.Nodup → (∀ c ∈ l, c < n) → l.length ≤ n
  | 0, l, _, h => by
    cases l with
    | nil => exact Nat.le_refl _
    | cons a l => exact absurd (h a List.mem_cons_self) (Nat.not_lt_zero _)
  | n + 1, l, hn, h => by
    have h1 := nd_len n (l.erase n) (hn.erase n) (fun c hc => by
      have := h c (List.mem_of_mem_erase hc)
      have hne : c ≠ n := fun e => by
        rw [e] at hc
        exact (List.Nodup.mem_erase_iff hn).mp hc |>.1 rfl
      omega)
    by_cases hm : n ∈ l
    · rw [List.length_erase_of_mem hm] at h1; omega
    · rw [List.erase_of_not_mem hm] at h1; omega
theorem Md_ok {α : CS} {a b : Int32} {ca cb : List Nat} (ha : TR (α 1) (α 2) a ca) (hb : TR (α 1) (α 2) b cb) (hnd : (ca ++ cb).Nodup) (h1 : Bd (α 1)) (h2 : Bd (α 2)) :
    ∃ (r : Int32) (α' : CS), Md α a b r α' ∧ TR (α' 1) (α' 2) r (ca ++ cb) ∧ (∀ k, k ∉ ca ++ cb → α' 1 k = α 1 k ∧ α' 2 k = α 2 k) ∧ (r = a ∨ r = b) := by
  obtain ⟨stk, bl, g1, g2, g3, g4, g5⟩ := dn_core α _ a b ca cb (Nat.le_refl _) ha hb hnd
  have hl : (ca ++ cb).length ≤ 60 := nd_len 60 _ hnd (fun c hc => by
    rcases List.mem_append.mp hc with h | h
    · exact TR_lt ha c h
    · exact TR_lt hb c h)
  rw [List.length_append] at hl
  exact ⟨_, _, ⟨⟨h1, h2, TR_Pt ha, TR_Pt hb⟩, stk, bl, g1, by omega, rfl, rfl⟩, g3, g4, g5⟩
end
section
/-! FORESTS: a list of tops and all their cells -/
def FR (L R : Nat → Int32) : List Int32 → List Nat → Prop
  | [], cs => cs = []
  | p :: ps, cs => ∃ c1 c2 : List Nat, cs.Perm (c1 ++ c2) ∧ ¬ p < 0 ∧ TR L R p c1 ∧ FR L R ps c2
theorem FR_perm {L R : Nat → Int32} {ps : List Int32} {cs cs' : List Nat} (h : FR L R ps cs) (hp : cs'.Perm cs) : FR L R ps cs' := by
  cases ps with
  | nil =>
    have h : cs = [] := h
    rw [h] at hp
    exact hp.eq_nil
  | cons p ps =>
    obtain ⟨c1, c2, h1, h2⟩ := h
    exact ⟨c1, c2, hp.trans h1, h2⟩
theorem FR_frame {L R L' R' : Nat → Int32} : ∀ {ps : List Int32} {cs : List Nat}, FR L R ps cs → (∀ c ∈ cs, L' c = L c ∧ R' c = R c) → FR L' R' ps cs
  | [], cs, h, _ => h
  | p :: ps, cs, h, hf => by
    obtain ⟨c1, c2, h1, h2, h3, h4⟩ := h
    exact ⟨c1, c2, h1, h2, TR_frame h3 (fun c hc => hf c (h1.mem_iff.mpr (List.mem_append_left _ hc))), FR_frame h4 (fun c hc => hf c (h1.mem_iff.mpr (List.mem_append_right _ hc)))⟩
theorem FR_lt {L R : Nat → Int32} : ∀ {ps : List Int32} {cs : List Nat}, FR L R ps cs → ∀ c ∈ cs, c < 60
  | [], cs, h, c, hc => by
    have h : cs = [] := h
    rw [h] at hc
    exact (List.not_mem_nil hc).elim
  | p :: ps, cs, h, c, hc => by
    obtain ⟨c1, c2, h1, h2, h3, h4⟩ := h
    rcases List.mem_append.mp (h1.mem_iff.mp hc) with hc | hc
    · exact TR_lt h3 c hc
    · exact FR_lt h4 c hc
theorem FR_len {L R : Nat → Int32} : ∀ {ps : List Int32} {cs : List Nat}, FR L R ps cs → ps.length ≤ cs.length
  | [], cs, h => Nat.zero_le _
  | p :: ps, cs, h => by
    obtain ⟨c1, c2, h1, h2, h3, h4⟩ := h
    obtain ⟨c, l, r, -, -, h5, -⟩ := TR_pos h3 h2
    have e1 := h1.length_eq
    have e2 := h5.length_eq
    have e3 := FR_len h4
    simp only [List.length_append, List.length_cons] at e1 e2 ⊢
    omega
theorem FR_root {L R : Nat → Int32} : ∀ {ps : List Int32} {cs : List Nat}, FR L R ps cs → ∀ p ∈ ps, ¬ p < 0 ∧ p.toNatClampNeg ∈ cs ∧ vp_in p 60
  | [], cs, h, p, hp => (List.not_mem_nil hp).elim
  | q :: ps, cs, h, p, hp => by
    obtain ⟨c1, c2, h1, h2, h3, h4⟩ := h
    rcases List.mem_cons.mp hp with e | hp
    · obtain ⟨c, l, r, h6, h7, h5, -⟩ := TR_pos h3 h2
      rw [e]
      refine ⟨h2, ?_, Pt_in (TR_Pt h3) h2⟩
      rw [h6, nI_c60 h7]
      exact h1.mem_iff.mpr (List.mem_append_left _ (h5.mem_iff.mpr List.mem_cons_self))
    · obtain ⟨a, b, c⟩ := FR_root h4 p hp
      exact ⟨a, h1.mem_iff.mpr (List.mem_append_right _ b), c⟩
theorem FR_one {L R : Nat → Int32} {p : Int32} {c1 : List Nat} (hp : ¬ p < 0) (h : TR L R p c1) : FR L R [p] c1 := ⟨c1, [], by rw [List.append_nil], hp, h, rfl⟩
theorem FR_snoc {L R : Nat → Int32} {p : Int32} {c1 : List Nat} (hp : ¬ p < 0) (h : TR L R p c1) : ∀ {ps : List Int32} {cs : List Nat}, FR L R ps cs → FR L R (ps ++ [p]) (cs ++ c1)
  | [], cs, hf => by
    have hf : cs = [] := hf
    rw [hf]
    exact FR_one hp h
  | q :: ps, cs, hf => by
    obtain ⟨d1, d2, h1, h2, h3, h4⟩ := hf
    refine ⟨d1, d2 ++ c1, ?_, h2, h3, FR_snoc hp h h4⟩
    rw [← List.append_assoc]
    exact h1.append_right c1
theorem FR_ph {L R : Nat → Int32} {l r : Int32} {cl cr cs : List Nat} {st : List Int32} (hl : TR L R l cl) (hr : TR L R r cr) (hs : FR L R st cs) : FR L R (ph l r st) (cl ++ (cr ++ cs)) := by
  have h1 : FR L R ((if r < 0 then [] else [r]) ++ st) (cr ++ cs) := by
    by_cases h : r < 0
    · rw [if_pos h, (TR_neg hr h).2]; exact hs
    · rw [if_neg h]; exact ⟨cr, cs, List.Perm.refl _, h, hr, hs⟩
  unfold ph
  by_cases h : l < 0
  · rw [if_pos h, (TR_neg hl h).2]; exact h1
  · rw [if_neg h]; exact ⟨cl, cr ++ cs, List.Perm.refl _, h, hl, h1⟩
theorem nd_of_perm {a b : List Nat} (h : a.Perm b) (hb : b.Nodup) : a.Nodup := h.nodup_iff.mpr hb
theorem nd_cnt {l : List Nat} (h : l.Nodup) (a : Nat) : l.count a ≤ 1 := List.nodup_iff_count.mp h a
theorem not_of_cnt {l : List Nat} {a : Nat} (h : l.count a = 0) : a ∉ l := List.count_eq_zero.mp h
theorem cnt_of_not {l : List Nat} {a : Nat} (h : a ∉ l) : l.count a = 0 := List.count_eq_zero.mpr h
theorem cnt_of_mem {l : List Nat} {a : Nat} (h : a ∈ l) : 0 < l.count a := List.count_pos_iff.mpr h
theorem Ps_ok : ∀ (rs : List Int32) (α : CS) (cs : List Nat), FR (α 1) (α 2) rs cs → cs.Nodup → Bd (α 1) → Bd (α 2) → ∃ (out : List Int32) (α' : CS), Ps rs α out α' ∧ FR (α' 1) (α' 2) out cs ∧ (∀ k, k ∉ cs → α' 1 k = α 1 k ∧ α' 2 k = α 2 k) ∧ (∀ p ∈ out, p ∈ rs) ∧ Bd (α' 1) ∧ Bd (α' 2) ∧ (2 ≤ rs.length → out.length < rs.length)
  | [], α, cs, h, hn, b1, b2 => ⟨[], α, ⟨rfl, rfl⟩, h, fun _ _ => ⟨rfl, rfl⟩, fun p hp => hp, b1, b2, fun h => absurd h (by decide)⟩
  | [x], α, cs, h, hn, b1, b2 => ⟨[x], α, ⟨rfl, rfl⟩, h, fun _ _ => ⟨rfl, rfl⟩, fun p hp => hp, b1, b2, fun h => absurd h (by simp)⟩
  | x :: y :: rs, α, cs, h, hn, b1, b2 => by
    obtain ⟨c1, c2, h1, h2, h3, c3, c4, h4, h5, h6, h7⟩ := h
    have pall : cs.Perm ((c1 ++ c3) ++ c4) := by
      rw [List.append_assoc]
      exact h1.trans (h4.append_left c1)
    have hnd := pall.nodup_iff.mp hn
    have hnd3 := List.nodup_append.mp hnd
    obtain ⟨r, α1, m1, m2, m3, m4⟩ := Md_ok h3 h6 hnd3.1 b1 b2
    have dis : ∀ c ∈ c4, c ∉ c1 ++ c3 := fun c hc hd => hnd3.2.2 c hd c hc rfl
    have dis2 : ∀ c ∈ c1 ++ c3, c ∉ c4 := fun c hc hd => hnd3.2.2 c hc c hd rfl
    obtain ⟨d1, d2, -⟩ := Md_Bd m1
    obtain ⟨out, α', p1, p2, p3, p4, p5, p6, p7⟩ := Ps_ok rs α1 c4 (FR_frame h7 (fun c hc => m3 c (dis c hc))) hnd3.2.1 d1 d2
    have hr : ¬ r < 0 := by
      rcases m4 with e | e
      · rw [e]; exact h2
      · rw [e]; exact h5
    refine ⟨r :: out, α', ⟨r, α1, out, m1, p1, rfl⟩, ⟨c1 ++ c3, c4, pall, hr, TR_frame m2 (fun c hc => p3 c (dis2 c hc)), p2⟩, fun k hk => ?_, fun p hp => ?_, p5, p6, fun _ => ?_⟩
    · have hk2 : k ∉ (c1 ++ c3) ++ c4 := fun q => hk (pall.mem_iff.mpr q)
      have k1 := p3 k (fun q => hk2 (List.mem_append_right _ q))
      have k2 := m3 k (fun q => hk2 (List.mem_append_left _ q))
      exact ⟨k1.1.trans k2.1, k1.2.trans k2.2⟩
    · rcases List.mem_cons.mp hp with e | hp
      · rw [e]
        rcases m4 with e | e
        · rw [e]; exact List.mem_cons_self
        · rw [e]; exact List.mem_cons_of_mem _ List.mem_cons_self
      · exact List.mem_cons_of_mem _ (List.mem_cons_of_mem _ (p4 p hp))
    · have := (Ps_len rs p1).1
      simp only [List.length_cons]
      omega
theorem Mr_ok : ∀ (N : Nat) (rs : List Int32) (α : CS) (cs : List Nat), rs.length ≤ N → FR (α 1) (α 2) rs cs → cs.Nodup → Bd (α 1) → Bd (α 2) → ∃ (K : Nat) (r : Int32) (α' : CS), Mr K rs α r α' ∧ TR (α' 1) (α' 2) r cs ∧ (∀ k, k ∉ cs → α' 1 k = α 1 k ∧ α' 2 k = α 2 k) ∧ ((rs = [] ∧ r = -1) ∨ r ∈ rs) ∧ Bd (α' 1) ∧ Bd (α' 2) := by
  intro N
  induction N with
  | zero =>
    intro rs α cs hN h hn b1 b2
    have e : rs = [] := List.eq_nil_of_length_eq_zero (by omega)
    subst e
    have h : cs = [] := h
    exact ⟨0, -1, α, ⟨Or.inl ⟨rfl, rfl⟩, rfl⟩, by rw [h]; exact TR_nil, fun _ _ => ⟨rfl, rfl⟩, Or.inl ⟨rfl, rfl⟩, b1, b2⟩
  | succ N ih =>
    intro rs α cs hN h hn b1 b2
    match rs, hN, h with
    | [], hN, h =>
      have h : cs = [] := h
      exact ⟨0, -1, α, ⟨Or.inl ⟨rfl, rfl⟩, rfl⟩, by rw [h]; exact TR_nil, fun _ _ => ⟨rfl, rfl⟩, Or.inl ⟨rfl, rfl⟩, b1, b2⟩
    | [p], hN, h =>
      obtain ⟨c1, c2, h1, h2, h3, h4⟩ := h
      have h4 : c2 = [] := h4
      rw [h4, List.append_nil] at h1
      exact ⟨0, p, α, ⟨Or.inr rfl, rfl⟩, TR_perm h3 h1, fun _ _ => ⟨rfl, rfl⟩, Or.inr List.mem_cons_self, b1, b2⟩
    | x :: y :: rs, hN, h =>
      obtain ⟨out, α1, p1, p2, p3, p4, p5, p6, p7⟩ := Ps_ok _ α cs h hn b1 b2
      have hlt := p7 (by simp)
      obtain ⟨K, r, α', q1, q2, q3, q4, q5, q6⟩ := ih out α1 cs (by omega) p2 hn p5 p6
      have hne := (Ps_len _ p1).2 (by simp)
      refine ⟨K + 1, r, α', ⟨by simp, out, α1, p1, q1⟩, q2, fun k hk => ⟨(q3 k hk).1.trans (p3 k hk).1, (q3 k hk).2.trans (p3 k hk).2⟩, Or.inr (p4 r (q4.resolve_left (fun q => hne q.1))), q5, q6⟩
/-- the free pile holds fl -/
def Fp (α : CS) (fl : List Nat) : Prop := α 6 0 = nI fl.length ∧ Hl (α 5) (fl.map nI)
theorem Fp_push {α : CS} {fl : List Nat} {c : Nat} (h : Fp α fl) (hl : fl.length < 60) : Fp (letgo (nI c) α) (fl ++ [c]) := by
  refine ⟨?_, ?_⟩
  · show α 6 0 + 1 = _
    rw [h.1, List.length_append, List.length_singleton]
    exact nI_1 _
  · show Hl (upd (α 5) (α 6 0).toNatClampNeg (nI c)) _
    rw [h.1, nI_clamp (by omega), List.map_append]
    have := Hl_push h.2 (nI c)
    rw [List.length_map] at this
    exact this
theorem Pg_ok (z : Int32) : ∀ (N : Nat) (stk row : List Int32) (α : CS) (cs cr fl : List Nat), cs.length ≤ N → FR (α 1) (α 2) stk cs → FR (α 1) (α 2) row cr → (cs ++ (cr ++ fl)).Nodup → (∀ c ∈ fl, c < 60) → Fp α fl → (∀ c ∈ cs, α 4 c = 1 ∨ α 4 c = 2) → (∀ p ∈ row, α 4 p.toNatClampNeg = 1) → Bd (α 1) → Bd (α 2) →
    ∃ (n : Nat) (row' : List Int32) (α' : CS) (cs' rl : List Nat), Pg z n stk row α row' α' ∧ FR (α' 1) (α' 2) row' cs' ∧ (cs' ++ rl).Perm (cs ++ cr) ∧ Fp α' (fl ++ rl) ∧ (∀ c ∈ rl, α 4 c = 2) ∧ (∀ c, α' 4 c = if c ∈ rl then 0 else α 4 c) ∧ (∀ k, k ∉ cs → α' 1 k = α 1 k ∧ α' 2 k = α 2 k) ∧ (∀ p ∈ row', α' 4 p.toNatClampNeg = 1) ∧ Bd (α' 1) ∧ Bd (α' 2) := by
  intro N
  induction N with
  | zero =>
    intro stk row α cs cr fl hN hs hr hnd hfl hfp hst hrow b1 b2
    have e : cs = [] := List.eq_nil_of_length_eq_zero (by omega)
    have e2 : stk = [] := List.eq_nil_of_length_eq_zero (by have := FR_len hs; omega)
    subst e; subst e2
    exact ⟨0, row, α, cr, [], ⟨rfl, rfl, rfl⟩, hr, by rw [List.append_nil]; exact List.Perm.refl _, by rw [List.append_nil]; exact hfp, fun c hc => (List.not_mem_nil hc).elim, fun c => by simp, fun _ _ => ⟨rfl, rfl⟩, hrow, b1, b2⟩
  | succ N ih =>
    intro stk row α cs cr fl hN hs hr hnd hfl hfp hst hrow b1 b2
    cases stk with
    | nil =>
      have e : cs = [] := hs
      subst e
      exact ⟨0, row, α, cr, [], ⟨rfl, rfl, rfl⟩, hr, by rw [List.append_nil]; exact List.Perm.refl _, by rw [List.append_nil]; exact hfp, fun c hc => (List.not_mem_nil hc).elim, fun c => by simp, fun _ _ => ⟨rfl, rfl⟩, hrow, b1, b2⟩
    | cons p st =>
      have hlen60 : (cs ++ (cr ++ fl)).length ≤ 60 := nd_len 60 _ hnd (fun c hc => by
        rcases List.mem_append.mp hc with h | h
        · exact FR_lt hs c h
        · rcases List.mem_append.mp h with h | h
          · exact FR_lt hr c h
          · exact hfl c h)
      have hstk := FR_len hs
      have hrl := FR_len hr
      obtain ⟨c1, c2, h1, h2, h3, h4⟩ := hs
      obtain ⟨c, l, r, ep, hc, pc, tl, tr⟩ := TR_pos h3 h2
      have hpn : p.toNatClampNeg = c := by rw [ep]; exact nI_c60 hc
      have hvp : vp_in p 60 := by rw [ep]; exact nI_in60 hc
      have pcs : cs.Perm (c :: (l ++ (r ++ c2))) := by
        refine h1.trans ((pc.append_right c2).trans ?_)
        rw [List.cons_append, List.append_assoc]
      have hccs : c ∈ cs := pcs.mem_iff.mpr List.mem_cons_self
      have hcnt : ∀ a, cs.count a = (c :: (l ++ (r ++ c2))).count a := fun a => pcs.count_eq a
      have hcnt1 : ∀ a, c1.count a = (c :: (l ++ r)).count a := fun a => pc.count_eq a
      have hn1 : ∀ a, (cs ++ (cr ++ fl)).count a ≤ 1 := fun a => nd_cnt hnd a
      have hlc := pcs.length_eq
      simp only [List.length_append, List.length_cons] at hlc hlen60 hstk
      have b60 : row.length < 60 := by omega
      have hn2 := hn1 c
      have hn3 := hcnt c
      simp only [List.count_append, List.count_cons_self] at hn2 hn3
      have ncr : c ∉ cr := not_of_cnt (by omega)
      have nfl : c ∉ fl := not_of_cnt (by omega)
      have nl : c ∉ l := not_of_cnt (by omega)
      have nr : c ∉ r := not_of_cnt (by omega)
      have n2 : c ∉ c2 := not_of_cnt (by omega)
      have ncs1 : c ∉ l ++ (r ++ c2) := not_of_cnt (by simp only [List.count_append]; omega)
      rcases hst c hccs with hs1 | hs2
      · by_cases hz : z = 0
        · -- live, and it ends
          obtain ⟨n, row', α', cs', rl, g1, g2, g3, g4, g5, g6, g7, g8, g9, g10⟩ := ih st (row ++ [p]) α c2 (cr ++ c1) fl (by have := h1.length_eq; have := pc.length_eq; simp only [List.length_append, List.length_cons] at *; omega) h4 (FR_snoc h2 h3 hr)
            (List.nodup_iff_count.mpr (fun a => by have := hn1 a; have := h1.count_eq a; simp only [List.count_append] at *; omega)) hfl hfp (fun d hd => hst d (h1.mem_iff.mpr (List.mem_append_right _ hd))) (fun q hq => by
              rcases List.mem_append.mp hq with hq | hq
              · exact hrow q hq
              · rw [List.mem_singleton.mp hq, hpn]; exact hs1) b1 b2
          refine ⟨n + 1, row', α', cs', rl, ⟨p, st, rfl, by simp only [List.length_cons]; omega, b60, hvp, Or.inl ⟨by rw [hpn]; exact hs1, hz, g1⟩⟩, g2, ?_, g4, g5, g6, fun k hk => g7 k (fun q => hk (h1.mem_iff.mpr (List.mem_append_right _ q))), g8, g9, g10⟩
          refine List.perm_iff_count.mpr (fun a => ?_)
          have q1 := g3.count_eq a
          have q2 := h1.count_eq a
          simp only [List.count_append] at q1 q2 ⊢
          omega
        · -- live, and all are asked for
          have f1 : ∀ d, d ≠ c → alone p α 1 d = α 1 d ∧ alone p α 2 d = α 2 d := fun d hd => by
            show upd (α 1) p.toNatClampNeg (-1) d = α 1 d ∧ upd (α 2) p.toNatClampNeg (-1) d = α 2 d
            rw [hpn]
            exact ⟨pk_un hd, pk_un hd⟩
          have fr : ∀ {ds : List Nat}, c ∉ ds → ∀ d ∈ ds, alone p α 1 d = α 1 d ∧ alone p α 2 d = α 2 d := fun hn d hd => f1 d (fun e => hn (e ▸ hd))
          have ta : TR (alone p α 1) (alone p α 2) p [c] := by
            have a1 : alone p α 1 c = -1 := by show upd (α 1) p.toNatClampNeg (-1) c = -1; rw [hpn, pk_us]
            have a2 : alone p α 2 c = -1 := by show upd (α 2) p.toNatClampNeg (-1) c = -1; rw [hpn, pk_us]
            rw [ep] at a1 a2 ⊢
            exact TR_node (l := []) (r := []) hc (by rw [a1]; exact TR_nil) (by rw [a2]; exact TR_nil) (List.Perm.refl _)
          obtain ⟨e1, e2⟩ := alone_Bd (c := p) b1 b2
          obtain ⟨n, row', α', cs', rl, g1, g2, g3, g4, g5, g6, g7, g8, g9, g10⟩ := ih (ph (α 1 c) (α 2 c) st) (row ++ [p]) (alone p α) (l ++ (r ++ c2)) (cr ++ [c]) fl (by simp only [List.length_append]; omega) (FR_ph (TR_frame tl (fr nl)) (TR_frame tr (fr nr)) (FR_frame h4 (fr n2))) (FR_snoc h2 ta (FR_frame hr (fr ncr)))
            (List.nodup_iff_count.mpr (fun a => by have q1 := hn1 a; have q2 := hcnt a; simp only [List.count_append, List.count_cons, List.count_nil] at *; omega)) hfl hfp (fun d hd => hst d (pcs.mem_iff.mpr (List.mem_cons_of_mem _ hd))) (fun q hq => by
              rcases List.mem_append.mp hq with hq | hq
              · exact hrow q hq
              · rw [List.mem_singleton.mp hq, hpn]; exact hs1) e1 e2
          refine ⟨n + 1, row', α', cs', rl, ⟨p, st, rfl, by simp only [List.length_cons]; omega, b60, hvp, Or.inr (Or.inl ⟨by rw [hpn]; exact hs1, hz, by rw [hpn]; exact g1⟩)⟩, g2, ?_, g4, g5, g6, fun k hk => ?_, g8, g9, g10⟩
          · refine List.perm_iff_count.mpr (fun a => ?_)
            have q1 := g3.count_eq a
            have q2 := hcnt a
            simp only [List.count_append, List.count_cons, List.count_nil] at q1 q2 ⊢
            omega
          · have hk2 : k ∉ c :: (l ++ (r ++ c2)) := fun q => hk (pcs.mem_iff.mpr q)
            have k1 := g7 k (fun q => hk2 (List.mem_cons_of_mem _ q))
            have k2 := f1 k (fun e => hk2 (e ▸ List.mem_cons_self))
            exact ⟨k1.1.trans k2.1, k1.2.trans k2.2⟩
      · -- dead: it is free
        have hfl60 : fl.length < 60 := by omega
        have s1 : ∀ d, d ≠ c → letgo p α 4 d = α 4 d := fun d hd => by
          show upd (α 4) p.toNatClampNeg 0 d = α 4 d
          rw [hpn]; exact pk_un hd
        have s0 : letgo p α 4 c = 0 := by
          show upd (α 4) p.toNatClampNeg 0 c = 0
          rw [hpn, pk_us]
        have hfp1 : Fp (letgo p α) (fl ++ [c]) := by rw [ep]; exact Fp_push hfp hfl60
        obtain ⟨n, row', α', cs', rl, g1, g2, g3, g4, g5, g6, g7, g8, g9, g10⟩ := ih (ph (α 1 c) (α 2 c) st) row (letgo p α) (l ++ (r ++ c2)) cr (fl ++ [c]) (by simp only [List.length_append]; omega) (FR_ph tl tr h4) hr
          (List.nodup_iff_count.mpr (fun a => by have q1 := hn1 a; have q2 := hcnt a; simp only [List.count_append, List.count_cons, List.count_nil] at *; omega)) (fun d hd => by
            rcases List.mem_append.mp hd with hd | hd
            · exact hfl d hd
            · rw [List.mem_singleton.mp hd]; exact hc) hfp1 (fun d hd => by
            rw [s1 d (fun e => ncs1 (e ▸ hd))]
            exact hst d (pcs.mem_iff.mpr (List.mem_cons_of_mem _ hd))) (fun q hq => by
            rw [s1 _ (fun e => ncr (e ▸ (FR_root hr q hq).2.1))]
            exact hrow q hq) b1 b2
        have hncr : c ∉ rl := fun hm => by
          have := g5 c hm
          rw [s0] at this
          exact absurd this (by decide)
        refine ⟨n + 1, row', α', cs', c :: rl, ⟨p, st, rfl, by simp only [List.length_cons]; omega, b60, hvp, Or.inr (Or.inr ⟨by rw [hpn]; exact hs2, by rw [hfp.1]; exact vp_in_nI hfl60 (by decide), by rw [hpn]; exact g1⟩)⟩, g2, ?_, ?_, fun d hd => ?_, fun d => ?_, fun k hk => ?_, g8, g9, g10⟩
        · refine List.perm_iff_count.mpr (fun a => ?_)
          have q1 := g3.count_eq a
          have q2 := hcnt a
          simp only [List.count_append, List.count_cons, List.count_nil] at q1 q2 ⊢
          omega
        · rw [show fl ++ c :: rl = (fl ++ [c]) ++ rl by rw [List.append_assoc]; rfl]
          exact g4
        · rcases List.mem_cons.mp hd with e | hd
          · rw [e]; exact hs2
          · have hne : d ≠ c := fun e => hncr (e ▸ hd)
            rw [← s1 d hne]; exact g5 d hd
        · rw [g6 d]
          by_cases e : d = c
          · rw [e, if_neg hncr, if_pos List.mem_cons_self]; exact s0
          · by_cases hm : d ∈ rl
            · rw [if_pos hm, if_pos (List.mem_cons_of_mem _ hm)]
            · rw [if_neg hm, if_neg (fun q => (List.mem_cons.mp q).elim e hm)]; exact s1 d e
        · exact g7 k (fun q => hk (pcs.mem_iff.mpr (List.mem_cons_of_mem _ q)))
/-- a tree is purged: what lives is one tree again, what was dead is free -/
theorem Pu_ok {α : CS} {top z : Int32} {cs fl : List Nat} (ht : TR (α 1) (α 2) top cs) (hnd : (cs ++ fl).Nodup) (hfl : ∀ c ∈ fl, c < 60) (hfp : Fp α fl) (hst : ∀ c ∈ cs, α 4 c = 1 ∨ α 4 c = 2) (b1 : Bd (α 1)) (b2 : Bd (α 2)) :
    ∃ (r : Int32) (α' : CS) (cs' rl : List Nat), Pu α top z r α' ∧ TR (α' 1) (α' 2) r cs' ∧ (cs' ++ rl).Perm cs ∧ Fp α' (fl ++ rl) ∧ (∀ c ∈ rl, α 4 c = 2) ∧ (∀ c, α' 4 c = if c ∈ rl then 0 else α 4 c) ∧ (∀ k, k ∉ cs → α' 1 k = α 1 k ∧ α' 2 k = α 2 k) ∧ (¬ r < 0 → α' 4 r.toNatClampNeg = 1) ∧ Bd (α' 1) ∧ Bd (α' 2) := by
  have hf : FR (α 1) (α 2) (if top < 0 then [] else [top]) cs := by
    by_cases h : top < 0
    · rw [if_pos h, (TR_neg ht h).2]; rfl
    · rw [if_neg h]; exact FR_one h ht
  obtain ⟨n, row', α1, cs', rl, g1, g2, g3, g4, g5, g6, g7, g8, g9, g10⟩ := Pg_ok z cs.length _ [] α cs [] fl (Nat.le_refl _) hf rfl (by rw [List.nil_append]; exact hnd) hfl hfp hst (fun p hp => (List.not_mem_nil hp).elim) b1 b2
  rw [List.append_nil] at g3
  have hnc : (cs' ++ rl).Nodup := g3.nodup_iff.mpr (List.nodup_append.mp hnd).1
  have hnc' := (List.nodup_append.mp hnc).1
  obtain ⟨K, r, α', m1, m2, m3, m4, m5, m6⟩ := Mr_ok _ row' α1 cs' (Nat.le_refl _) g2 hnc' g9 g10
  have hlen : row'.length ≤ 60 := by
    have q1 := FR_len g2
    have q2 := nd_len 60 cs' hnc' (FR_lt g2)
    omega
  have e4 : α' 4 = α1 4 := Mr_ex K m1 (by decide) (by decide) (by decide)
  have e5 : α' 5 = α1 5 := Mr_ex K m1 (by decide) (by decide) (by decide)
  have e6 : α' 6 = α1 6 := Mr_ex K m1 (by decide) (by decide) (by decide)
  refine ⟨r, α', cs', rl, ⟨TR_Pt ht, b1, b2, n, row', α1, K, g1, hlen, m1⟩, m2, g3, ?_, g5, ?_, fun k hk => ?_, fun hr => ?_, m5, m6⟩
  · unfold Fp; rw [e5, e6]; exact g4
  · rw [e4]; exact g6
  · have k1 := m3 k (fun q => hk (g3.mem_iff.mp (List.mem_append_left _ q)))
    have k2 := g7 k hk
    exact ⟨k1.1.trans k2.1, k1.2.trans k2.2⟩
  · rcases m4 with ⟨-, e⟩ | h
    · rw [e] at hr; exact absurd m1_neg hr
    · rw [e4]; exact g8 r h
end
section
/-! THE INVARIANT -/
/-- how many live -/
def lvn (α : CS) (l : List Nat) : Nat := l.countP (fun c => decide (α 4 c = 1))
theorem lvn_perm {α : CS} {l l' : List Nat} (h : l.Perm l') : lvn α l = lvn α l' := h.countP_eq _
theorem lvn_app (α : CS) (l l' : List Nat) : lvn α (l ++ l') = lvn α l + lvn α l' := List.countP_append
theorem lvn_congr {α α' : CS} {l : List Nat} (h : ∀ c ∈ l, α' 4 c = α 4 c) : lvn α' l = lvn α l := List.countP_congr (fun c hc => by rw [h c hc])
theorem lvn_0 {α : CS} {l : List Nat} (h : ∀ c ∈ l, ¬ α 4 c = 1) : lvn α l = 0 := List.countP_eq_zero.mpr (fun c hc => by simpa using h c hc)
theorem lvn_one {α : CS} {c : Nat} (h : α 4 c = 1) : lvn α [c] = 1 := by simp [lvn, h]
theorem lvn_cons {α : CS} {c : Nat} {l : List Nat} (h : α 4 c = 1) : lvn α (c :: l) = lvn α l + 1 := by
  rw [show c :: l = [c] ++ l from rfl, lvn_app, lvn_one h]; omega
/-- a cell in how many heaps -/
def cn (cs : Nat → List Nat) (c : Nat) : Nat → Nat
  | 0 => 0
  | n + 1 => cn cs c n + (cs n).count c
theorem cn_ge (cs : Nat → List Nat) (c h : Nat) (l : List Nat) : ∀ n, n ≤ h → cn (va_up cs h l) c n = cn cs c n
  | 0, _ => rfl
  | n + 1, hn => by
    show cn (va_up cs h l) c n + (va_up cs h l n).count c = cn cs c n + (cs n).count c
    rw [cn_ge cs c h l n (by omega), show va_up cs h l n = cs n from by simp [va_up, show n ≠ h by omega]]
theorem cn_up (cs : Nat → List Nat) (c h : Nat) (l : List Nat) : ∀ n, h < n → cn (va_up cs h l) c n + (cs h).count c = cn cs c n + l.count c
  | 0, hn => absurd hn (Nat.not_lt_zero _)
  | n + 1, hn => by
    show cn (va_up cs h l) c n + (va_up cs h l n).count c + (cs h).count c = cn cs c n + (cs n).count c + l.count c
    by_cases e : h = n
    · rw [← e, cn_ge cs c h l h (Nat.le_refl _), show va_up cs h l h = l from by simp [va_up]]; omega
    · have := cn_up cs c h l n (by omega)
      rw [show va_up cs h l n = cs n from by simp [va_up, show n ≠ h by omega]]
      omega
theorem cn_le (cs : Nat → List Nat) (c : Nat) {h n : Nat} (hn : h < n) : (cs h).count c ≤ cn cs c n := by
  have := cn_up cs c h [] n hn
  simp only [List.count_nil] at this
  omega
theorem cn_le2 (cs : Nat → List Nat) (c : Nat) {h g n : Nat} (hn : h < n) (gn : g < n) (hg : h ≠ g) : (cs h).count c + (cs g).count c ≤ cn cs c n := by
  have h1 := cn_up cs c h [] n hn
  have h2 := cn_le (va_up cs h []) c gn
  rw [show va_up cs h [] g = cs g from by simp [va_up, show g ≠ h from fun e => hg e.symm]] at h2
  simp only [List.count_nil] at h1
  omega
theorem cn_pos (cs : Nat → List Nat) (c : Nat) : ∀ n, 0 < cn cs c n → ∃ h, h < n ∧ c ∈ cs h
  | 0, h => absurd h (Nat.not_lt_zero _)
  | n + 1, h => by
    by_cases e : 0 < (cs n).count c
    · exact ⟨n, Nat.lt_succ_self n, List.count_pos_iff.mp e⟩
    · have h : 0 < cn cs c n + (cs n).count c := h
      obtain ⟨g, h1, h2⟩ := cn_pos cs c n (by omega)
      exact ⟨g, Nat.lt_succ_of_lt h1, h2⟩
def Iv (α : CS) (nh : Nat) (cs : Nat → List Nat) (fl : List Nat) : Prop := α 8 0 = nI nh ∧ nh ≤ 10 ∧ Bd (α 1) ∧ Bd (α 2) ∧ (∀ h, h < nh → TR (α 1) (α 2) (α 7 h) (cs h)) ∧ (∀ c, c < 60 → cn cs c nh + fl.count c = 1) ∧ (∀ c ∈ fl, c < 60) ∧ Fp α fl ∧ (∀ h, h < nh → ∀ c ∈ cs h, α 4 c = 1 ∨ α 4 c = 2) ∧ (∀ c ∈ fl, α 4 c = 0)
theorem Iv_nd {α : CS} {nh : Nat} {cs : Nat → List Nat} {fl : List Nat} (hv : Iv α nh cs fl) {h : Nat} (hh : h < nh) : (cs h ++ fl).Nodup := by
  obtain ⟨-, -, -, -, ht, hc, hf, -⟩ := hv
  refine List.nodup_iff_count.mpr (fun c => ?_)
  rw [List.count_append]
  by_cases h60 : c < 60
  · have h1 := hc c h60
    have h2 := cn_le cs c hh
    omega
  · rw [cnt_of_not (fun q => h60 (TR_lt (ht h hh) c q)), cnt_of_not (fun q => h60 (hf c q))]
    omega
theorem Iv_nd2 {α : CS} {nh : Nat} {cs : Nat → List Nat} {fl : List Nat} (hv : Iv α nh cs fl) {h g : Nat} (hh : h < nh) (hg : g < nh) (hne : h ≠ g) : (cs h ++ cs g).Nodup := by
  obtain ⟨-, -, -, -, ht, hc, hf, -⟩ := hv
  refine List.nodup_iff_count.mpr (fun c => ?_)
  rw [List.count_append]
  by_cases h60 : c < 60
  · have h1 := hc c h60
    have h2 := cn_le2 cs c hh hg hne
    omega
  · rw [cnt_of_not (fun q => h60 (TR_lt (ht h hh) c q)), cnt_of_not (fun q => h60 (TR_lt (ht g hg) c q))]
    omega
theorem Iv_dis {α : CS} {nh : Nat} {cs : Nat → List Nat} {fl : List Nat} (hv : Iv α nh cs fl) {h g c : Nat} (hh : h < nh) (hg : g < nh) (hne : h ≠ g) (hc : c ∈ cs h) : c ∉ cs g := by
  have h1 := nd_cnt (Iv_nd2 hv hh hg hne) c
  rw [List.count_append] at h1
  have h2 := cnt_of_mem hc
  exact not_of_cnt (by omega)
theorem Iv_fl {α : CS} {nh : Nat} {cs : Nat → List Nat} {fl : List Nat} (hv : Iv α nh cs fl) {h c : Nat} (hh : h < nh) (hc : c ∈ cs h) : c ∉ fl := by
  have h1 := nd_cnt (Iv_nd hv hh) c
  rw [List.count_append] at h1
  have h2 := cnt_of_mem hc
  exact not_of_cnt (by omega)
theorem Iv_used {α : CS} {nh : Nat} {cs : Nat → List Nat} {fl : List Nat} (hv : Iv α nh cs fl) {c : Nat} (h60 : c < 60) (h0 : ¬ α 4 c = 0) : ∃ h, h < nh ∧ c ∈ cs h := by
  obtain ⟨-, -, -, -, ht, hc, hf, -, -, hz⟩ := hv
  have hn : c ∉ fl := fun q => h0 (hz c q)
  have := hc c h60
  rw [cnt_of_not hn] at this
  exact cn_pos cs c nh (by omega)
theorem vu_s {cs : Nat → List Nat} {h : Nat} {l : List Nat} : va_up cs h l h = l := by simp [va_up]
theorem vu_n {cs : Nat → List Nat} {h g : Nat} {l : List Nat} (e : g ≠ h) : va_up cs h l g = cs g := by simp [va_up, e]
/-- one heap is made new -/
theorem Iv_upd {α α' : CS} {nh : Nat} {cs : Nat → List Nat} {fl fl' l' : List Nat} {h : Nat} (hv : Iv α nh cs fl) (hh : h < nh) (e8 : α' 8 0 = α 8 0) (b1 : Bd (α' 1)) (b2 : Bd (α' 2)) (ht : TR (α' 1) (α' 2) (α' 7 h) l') (e7 : ∀ g, g < nh → g ≠ h → α' 7 g = α 7 g)
    (hf : ∀ g, g < nh → g ≠ h → ∀ c ∈ cs g, α' 1 c = α 1 c ∧ α' 2 c = α 2 c ∧ α' 4 c = α 4 c) (hc : ∀ c, c < 60 → l'.count c + fl'.count c = (cs h).count c + fl.count c) (hfl : ∀ c ∈ fl', c < 60) (hfp : Fp α' fl') (h4 : ∀ c ∈ l', α' 4 c = 1 ∨ α' 4 c = 2) (h0 : ∀ c ∈ fl', α' 4 c = 0) : Iv α' nh (va_up cs h l') fl' := by
  obtain ⟨i8, i10, -, -, it, ic, -, -, i4, -⟩ := hv
  refine ⟨e8.trans i8, i10, b1, b2, fun g hg => ?_, fun c h60 => ?_, hfl, hfp, fun g hg => ?_, h0⟩
  · by_cases e : g = h
    · rw [e, vu_s]; exact ht
    · rw [vu_n e, e7 g hg e]
      exact TR_frame (it g hg) (fun c hcc => ⟨(hf g hg e c hcc).1, (hf g hg e c hcc).2.1⟩)
  · have q1 := cn_up cs c h l' nh hh
    have q2 := ic c h60
    have q3 := hc c h60
    omega
  · by_cases e : g = h
    · rw [e, vu_s]; exact h4
    · rw [vu_n e]
      intro c hcc
      rw [(hf g hg e c hcc).2.2]
      exact i4 g hg c hcc
/-- the class's own part: counts and tokens -/
def Io (α σ : CS) (nh : Nat) (cs : Nat → List Nat) (B : Nat) : Prop := ∃ (nt : Nat) (ld tk to own ρ : Nat → Nat), σ 17 0 = nI nt ∧ nt ≤ B ∧
  (∀ h, h < nh → σ 7 h = nI (lvn α (cs h))) ∧
  (∀ h, h < nh → ∀ c ∈ cs h, tk c < nt ∧ σ 8 c = nI (tk c) ∧ own (tk c) = h) ∧
  (∀ h, h < nh → to h < nt ∧ σ 11 h = nI (to h) ∧ own (to h) = h ∧ ld (to h) = to h) ∧
  (∀ t, t < nt → ld t < nt ∧ σ 9 t = nI (ld t) ∧ own (ld t) = own t ∧ own t < nh ∧ (ld t ≠ t → ρ (ld t) < ρ t) ∧ (ld t = t → to (own t) = t ∧ σ 10 t = nI (own t) ∧ ρ t = 0))
/-- the live ones stay, none comes -/
def Sm (α : CS) (cs : Nat → List Nat) (α' : CS) (cs' : Nat → List Nat) (nh : Nat) : Prop := ∀ g, g < nh → lvn α' (cs' g) = lvn α (cs g) ∧ ∀ c ∈ cs' g, c ∈ cs g
theorem Sm_rf (α : CS) (cs : Nat → List Nat) (nh : Nat) : Sm α cs α cs nh := fun _ _ => ⟨rfl, fun _ h => h⟩
theorem Sm_tr {α α1 α2 : CS} {cs cs1 cs2 : Nat → List Nat} {nh : Nat} (h1 : Sm α cs α1 cs1 nh) (h2 : Sm α1 cs1 α2 cs2 nh) : Sm α cs α2 cs2 nh := fun g hg => ⟨(h2 g hg).1.trans (h1 g hg).1, fun c hc => (h1 g hg).2 c ((h2 g hg).2 c hc)⟩
theorem Io_sm {α α' σ : CS} {nh B : Nat} {cs cs' : Nat → List Nat} (h : Io α σ nh cs B) (hs : Sm α cs α' cs' nh) : Io α' σ nh cs' B := by
  obtain ⟨nt, ld, tk, to, own, ρ, h1, h2, h3, h4, h5, h6⟩ := h
  exact ⟨nt, ld, tk, to, own, ρ, h1, h2, fun g hg => by rw [(hs g hg).1]; exact h3 g hg, fun g hg c hc => h4 g hg c ((hs g hg).2 c hc), h5, h6⟩
theorem Io_ko {α σ σ' : CS} {nh B : Nat} {cs : Nat → List Nat} (h : Io α σ nh cs B) (hk : Ko σ σ') : Io α σ' nh cs B := by
  unfold Io
  rw [hk.1, hk.2.1, hk.2.2.1, hk.2.2.2.1, hk.2.2.2.2.1, hk.2.2.2.2.2]
  exact h
theorem Io_le {α σ : CS} {nh B B' : Nat} {cs : Nat → List Nat} (h : Io α σ nh cs B) (hb : B ≤ B') : Io α σ nh cs B' := by
  obtain ⟨nt, ld, tk, to, own, ρ, h1, h2, h3⟩ := h
  exact ⟨nt, ld, tk, to, own, ρ, h1, Nat.le_trans h2 hb, h3⟩
/-- a heap is purged -/
theorem Pstep {α : CS} {nh : Nat} {cs : Nat → List Nat} {fl : List Nat} (z : Int32) (hv : Iv α nh cs fl) {h : Nat} (hh : h < nh) : ∃ (r : Int32) (α1 : CS) (l1 rl : List Nat), Pu α (α 7 h) z r α1 ∧ Iv (va_up α1 7 (upd (α1 7) h r)) nh (va_up cs h l1) (fl ++ rl) ∧ Sm α cs (va_up α1 7 (upd (α1 7) h r)) (va_up cs h l1) nh ∧ (¬ r < 0 → α1 4 r.toNatClampNeg = 1) := by
  have hv0 := hv
  obtain ⟨i8, i10, b1, b2, it, ic, ifl, ifp, i4, i0⟩ := hv
  obtain ⟨r, α1, l1, rl, g1, g2, g3, g4, g5, g6, g7, g8, g9, g10⟩ := Pu_ok (z := z) (it h hh) (Iv_nd hv0 hh) ifl ifp (i4 h hh) b1 b2
  have e7 : α1 7 = α 7 := Pu_ex g1 (Or.inr (Or.inl rfl))
  have e8 : α1 8 = α 8 := Pu_ex g1 (Or.inr (Or.inr rfl))
  have rlin : ∀ c ∈ rl, c ∈ cs h := fun c hc => g3.mem_iff.mp (List.mem_append_right _ hc)
  have hnd := Iv_nd hv0 hh
  have ndl : (l1 ++ rl).Nodup := g3.nodup_iff.mpr (List.nodup_append.mp hnd).1
  have l1n : ∀ c ∈ l1, c ∉ rl := fun c hc hd => (List.nodup_append.mp ndl).2.2 c hc c hd rfl
  have s1 : ∀ c, c ∉ rl → α1 4 c = α 4 c := fun c hc => by rw [g6 c, if_neg hc]
  have oth : ∀ g, g < nh → g ≠ h → ∀ c ∈ cs g, c ∉ cs h := fun g hg e c hc => Iv_dis hv0 hg hh e hc
  refine ⟨r, α1, l1, rl, g1, ?_, ?_, g8⟩
  · refine Iv_upd hv0 hh (by show α1 8 0 = α 8 0; rw [e8]) g9 g10 ?_ (fun g hg e => ?_) (fun g hg e c hc => ?_) (fun c h60 => ?_) (fun c hc => ?_) g4 (fun c hc => ?_) (fun c hc => ?_)
    · show TR (α1 1) (α1 2) (upd (α1 7) h r h) l1
      rw [pk_us]; exact g2
    · show upd (α1 7) h r g = α 7 g
      rw [pk_un e, e7]
    · have k1 := g7 c (oth g hg e c hc)
      exact ⟨k1.1, k1.2, s1 c (fun q => oth g hg e c hc (rlin c q))⟩
    · have q := g3.count_eq c
      simp only [List.count_append] at q ⊢
      omega
    · rcases List.mem_append.mp hc with hc | hc
      · exact ifl c hc
      · exact TR_lt (it h hh) c (rlin c hc)
    · show α1 4 c = 1 ∨ α1 4 c = 2
      rw [s1 c (l1n c hc)]
      exact i4 h hh c (g3.mem_iff.mp (List.mem_append_left _ hc))
    · show α1 4 c = 0
      rcases List.mem_append.mp hc with hc | hc
      · rw [s1 c (fun q => Iv_fl hv0 hh (rlin c q) hc)]; exact i0 c hc
      · rw [g6 c, if_pos hc]
  · intro g hg
    by_cases e : g = h
    · rw [e, vu_s]
      refine ⟨?_, fun c hc => g3.mem_iff.mp (List.mem_append_left _ hc)⟩
      have q1 : lvn (va_up α1 7 (upd (α1 7) h r)) l1 = lvn α l1 := lvn_congr (fun c hc => s1 c (l1n c hc))
      have q2 := lvn_perm (α := α) g3
      rw [lvn_app, lvn_0 (α := α) (l := rl) (fun c hc => by rw [g5 c hc]; decide)] at q2
      omega
    · rw [vu_n e]
      exact ⟨lvn_congr (fun c hc => s1 c (fun q => oth g hg e c hc (rlin c q))), fun c hc => hc⟩
theorem Cl_ok {nh : Nat} : ∀ (n h : Nat) (α : CS) (cs : Nat → List Nat) (fl : List Nat), h + n = nh → Iv α nh cs fl → ∃ (α' : CS) (cs' : Nat → List Nat) (fl' : List Nat), Cl n h α α' ∧ Iv α' nh cs' fl' ∧ Sm α cs α' cs' nh
  | 0, h, α, cs, fl, hh, hv => ⟨α, cs, fl, rfl, hv, Sm_rf _ _ _⟩
  | n + 1, h, α, cs, fl, hh, hv => by
    obtain ⟨r, α1, l1, rl, g1, g2, g3, -⟩ := Pstep 1 hv (h := h) (by omega)
    obtain ⟨α', cs', fl', k1, k2, k3⟩ := Cl_ok n (h + 1) _ _ _ (by omega) g2
    exact ⟨α', cs', fl', ⟨r, α1, g1, k1⟩, k2, Sm_tr g3 k3⟩
theorem Tp_ok {α : CS} {nh : Nat} {cs : Nat → List Nat} {fl : List Nat} (hv : Iv α nh cs fl) {h : Nat} (hh : h < nh) : ∃ (α' : CS) (cs' : Nat → List Nat) (fl' : List Nat), Tp α (nI h) α' ∧ Iv α' nh cs' fl' ∧ Sm α cs α' cs' nh ∧ (¬ α' 7 h < 0 → α' 4 (α' 7 h).toNatClampNeg = 1) := by
  have h10 : nh ≤ 10 := hv.2.1
  have hcl : (nI h).toNatClampNeg = h := nI_clamp (by omega)
  have htr := hv.2.2.2.2.1 h hh
  have hvh : vp_in (nI h) 10 := vp_in_nI (by omega) (by decide)
  by_cases hneg : α 7 h < 0
  · exact ⟨α, cs, fl, ⟨hvh, by rw [hcl]; exact TR_Pt htr, Or.inl ⟨by rw [hcl]; exact hneg, rfl⟩⟩, hv, Sm_rf _ _ _, fun q => absurd hneg q⟩
  obtain ⟨c, l, r, e1, e2, e3, -⟩ := TR_pos htr hneg
  have hcc : (α 7 h).toNatClampNeg = c := by rw [e1]; exact nI_c60 e2
  have hin : c ∈ cs h := e3.mem_iff.mpr List.mem_cons_self
  rcases hv.2.2.2.2.2.2.2.2.1 h hh c hin with h1 | h2
  · exact ⟨α, cs, fl, ⟨hvh, by rw [hcl]; exact TR_Pt htr, Or.inr (Or.inl ⟨by rw [hcl]; exact hneg, by rw [hcl, hcc]; exact h1, rfl⟩)⟩, hv, Sm_rf _ _ _, fun _ => by rw [hcc]; exact h1⟩
  · obtain ⟨r2, α1, l1, rl, g1, g2, g3, g4⟩ := Pstep 0 hv hh
    refine ⟨_, _, _, ⟨hvh, by rw [hcl]; exact TR_Pt htr, Or.inr (Or.inr ⟨by rw [hcl]; exact hneg, by rw [hcl, hcc]; exact h2, r2, α1, by rw [hcl]; exact g1, by rw [hcl]⟩)⟩, g2, g3, ?_⟩
    show ¬ upd (α1 7) h r2 h < 0 → α1 4 (upd (α1 7) h r2 h).toNatClampNeg = 1
    rw [pk_us]
    exact g4
end
section
/-! THE OPERATIONS keep the invariant -/
def Jv (α σ : CS) (B : Nat) : Prop := Ac α σ ∧ ∃ (nh : Nat) (cs : Nat → List Nat) (fl : List Nat), Iv α nh cs fl ∧ Io α σ nh cs B
theorem Jv_le {α σ : CS} {B B' : Nat} (h : Jv α σ B) (hb : B ≤ B') : Jv α σ B' := by
  obtain ⟨h1, nh, cs, fl, h2, h3⟩ := h
  exact ⟨h1, nh, cs, fl, h2, Io_le h3 hb⟩
theorem isH_of {α : CS} {nh : Nat} {h : Int32} (e8 : α 8 0 = nI nh) (hn : nh ≤ 10) (hh : isH α h) : ∃ g, g < nh ∧ h = nI g := by
  obtain ⟨g, h1, h2⟩ := nI_of (ge0.mp hh.1)
  refine ⟨g, ?_, h2⟩
  have := hh.2
  rw [e8, h2] at this
  exact (nI_ltI h1 (by omega)).mp this
theorem Io_upd {α α' σ σ' : CS} {nh B : Nat} {cs cs' : Nat → List Nat} (h : Io α σ nh cs B) (h7 : ∀ g, g < nh → σ' 7 g = nI (lvn α' (cs' g)) ∧ ∀ c ∈ cs' g, c ∈ cs g) (e8 : σ' 8 = σ 8) (e9 : σ' 9 = σ 9) (e10 : σ' 10 = σ 10) (e11 : σ' 11 = σ 11) (e17 : σ' 17 = σ 17) : Io α' σ' nh cs' B := by
  obtain ⟨nt, ld, tk, to, own, ρ, h1, h2, h3, h4, h5, h6⟩ := h
  refine ⟨nt, ld, tk, to, own, ρ, by rw [e17]; exact h1, h2, fun g hg => (h7 g hg).1, fun g hg c hc => ?_, fun g hg => ?_, fun t ht => ?_⟩
  · rw [e8]; exact h4 g hg c ((h7 g hg).2 c hc)
  · rw [e11]; exact h5 g hg
  · rw [e9, e10]; exact h6 t ht
theorem J_find {α σ : CS} {B : Nat} (hJ : Jv α σ B) (h : Int32) : ∃ (r : Int32) (α' : CS), Fm α h r α' ∧ ∀ σ', Ac α' σ' → Ko σ σ' → Jv α' σ' B := by
  obtain ⟨hac, nh, cs, fl, hv, ho⟩ := hJ
  by_cases hh : isH α h
  · obtain ⟨g, hg, rfl⟩ := isH_of hv.1 hv.2.1 hh
    have h10 : nh ≤ 10 := hv.2.1
    obtain ⟨α', cs', fl', k1, k2, k3, -⟩ := Tp_ok hv hg
    refine ⟨α' 7 (nI g).toNatClampNeg, α', Or.inr ⟨hh, k1, rfl⟩, fun σ' ha hk => ⟨ha, nh, cs', fl', k2, Io_ko (Io_sm ho k3) hk⟩⟩
  · exact ⟨-1, α, Or.inl ⟨hh, rfl, rfl⟩, fun σ' ha hk => ⟨ha, nh, cs, fl, hv, Io_ko ho hk⟩⟩
theorem nI_sub1 {n : Nat} : nI (n + 1) - 1 = nI n := nI_pred n
theorem J_delmin {α σ : CS} {B : Nat} (hJ : Jv α σ B) (h : Int32) : ∃ (r : Int32) (α' : CS), Dm α h r α' ∧ ∀ σ', Ac α' σ' → ((r < 0 ∧ Ko σ σ') ∨ (¬ r < 0 ∧ Ko (dmn0 h σ) σ')) → Jv α' σ' B := by
  obtain ⟨hac, nh, cs, fl, hv, ho⟩ := hJ
  by_cases hh : isH α h
  · obtain ⟨g, hg, rfl⟩ := isH_of hv.1 hv.2.1 hh
    have h10 : nh ≤ 10 := hv.2.1
    have hcl : (nI g).toNatClampNeg = g := nI_clamp (by omega)
    obtain ⟨α1, cs1, fl1, k1, k2, k3, k4⟩ := Tp_ok hv hg
    have ho1 := Io_sm ho k3
    have htr := k2.2.2.2.2.1 g hg
    by_cases hneg : α1 7 g < 0
    · have e1 := (TR_neg htr hneg).1
      refine ⟨-1, α1, ⟨α1 7 g, α1, Or.inr ⟨hh, k1, by rw [hcl]⟩, Or.inl ⟨hneg, e1, rfl, rfl⟩⟩, fun σ' ha hk => ?_⟩
      rcases hk with ⟨-, hk⟩ | ⟨hk, -⟩
      · exact ⟨ha, nh, cs1, fl1, k2, Io_ko ho1 hk⟩
      · exact absurd m1_neg hk
    · obtain ⟨x, l, r, ex, hx, px, tl, tr⟩ := TR_pos htr hneg
      have hxc : (α1 7 g).toNatClampNeg = x := by rw [ex]; exact nI_c60 hx
      have hlive : α1 4 x = 1 := by rw [← hxc]; exact k4 hneg
      have k2' := k2
      obtain ⟨i8, i10, b1, b2, it, ic, ifl, ifp, i4, i0⟩ := k2
      have hnd := Iv_nd k2' hg
      have hcnt : ∀ a, (cs1 g).count a = (x :: (l ++ r)).count a := fun a => px.count_eq a
      have hndc := List.nodup_append.mp hnd
      have hnd1 := px.nodup_iff.mp hndc.1
      rw [List.nodup_cons] at hnd1
      have hxin : x ∈ cs1 g := px.mem_iff.mpr List.mem_cons_self
      have hxfl : x ∉ fl1 := Iv_fl k2' hg hxin
      have hfl60 : fl1.length < 60 := by
        have q := nd_len 60 _ hnd (fun c hc => by
          rcases List.mem_append.mp hc with hc | hc
          · exact TR_lt htr c hc
          · exact ifl c hc)
        have q2 := px.length_eq
        simp only [List.length_append, List.length_cons] at q q2
        omega
      have s1 : ∀ d, d ≠ x → letgo (nI x) α1 4 d = α1 4 d := fun d hd => by
        show upd (α1 4) (nI x).toNatClampNeg 0 d = α1 4 d
        rw [nI_c60 hx]; exact pk_un hd
      have s0 : letgo (nI x) α1 4 x = 0 := by
        show upd (α1 4) (nI x).toNatClampNeg 0 x = 0
        rw [nI_c60 hx, pk_us]
      obtain ⟨r2, α2, m1, m2, m3, m4⟩ := Md_ok (α := letgo (nI x) α1) (a := α1 1 x) (b := α1 2 x) tl tr hnd1.2 b1 b2
      obtain ⟨d1, d2, -⟩ := Md_Bd m1
      have f4 : α2 4 = letgo (nI x) α1 4 := Md_ex m1 (by decide) (by decide) (by decide)
      have f5 : α2 5 = letgo (nI x) α1 5 := Md_ex m1 (by decide) (by decide) (by decide)
      have f6 : α2 6 = letgo (nI x) α1 6 := Md_ex m1 (by decide) (by decide) (by decide)
      have f7 : α2 7 = α1 7 := (Md_ex (k := 7) m1 (by decide) (by decide) (by decide)).trans rfl
      have f8 : α2 8 = α1 8 := (Md_ex (k := 8) m1 (by decide) (by decide) (by decide)).trans rfl
      have lrin : ∀ c ∈ l ++ r, c ∈ cs1 g := fun c hc => px.mem_iff.mpr (List.mem_cons_of_mem _ hc)
      have lrne : ∀ c ∈ l ++ r, c ≠ x := fun c hc e => hnd1.1 (e ▸ hc)
      have oth : ∀ g', g' < nh → g' ≠ g → ∀ c ∈ cs1 g', c ∉ cs1 g := fun g' hg' e c hc => Iv_dis k2' hg' hg e hc
      have hfp2 : Fp α2 (fl1 ++ [x]) := by
        have := Fp_push (c := x) ifp hfl60
        unfold Fp
        rw [f5, f6]
        exact this
      have hiv : Iv (va_up α2 7 (upd (α2 7) g r2)) nh (va_up cs1 g (l ++ r)) (fl1 ++ [x]) := by
        refine Iv_upd k2' hg (by show α2 8 0 = α1 8 0; rw [f8]) d1 d2 ?_ (fun g' hg' e => ?_) (fun g' hg' e c hc => ?_) (fun c h60 => ?_) (fun c hc => ?_) hfp2 (fun c hc => ?_) (fun c hc => ?_)
        · show TR (α2 1) (α2 2) (upd (α2 7) g r2 g) (l ++ r)
          rw [pk_us]; exact m2
        · show upd (α2 7) g r2 g' = α1 7 g'
          rw [pk_un e, f7]
        · have hn := oth g' hg' e c hc
          have q := m3 c (fun q => hn (lrin c q))
          refine ⟨q.1, q.2, ?_⟩
          show α2 4 c = α1 4 c
          rw [f4]
          exact s1 c (fun e => hn (e ▸ hxin))
        · have q := hcnt c
          simp only [List.count_append, List.count_cons, List.count_nil] at q ⊢
          omega
        · rcases List.mem_append.mp hc with hc | hc
          · exact ifl c hc
          · rw [List.mem_singleton.mp hc]; exact hx
        · show α2 4 c = 1 ∨ α2 4 c = 2
          rw [f4, s1 c (lrne c hc)]
          exact i4 g hg c (lrin c hc)
        · show α2 4 c = 0
          rw [f4]
          rcases List.mem_append.mp hc with hc | hc
          · rw [s1 c (fun e => hxfl (e ▸ hc))]; exact i0 c hc
          · rw [List.mem_singleton.mp hc]; exact s0
      refine ⟨α1 7 g, va_up α2 7 (upd (α2 7) g r2), ⟨α1 7 g, α1, Or.inr ⟨hh, k1, by rw [hcl]⟩, Or.inr ⟨hneg, rfl, vp_in_nI (by omega) (by decide), by rw [ex]; exact nI_in60 hx, by rw [ifp.1]; exact vp_in_nI hfl60 (by decide), r2, α2, ?_, by rw [hcl]⟩⟩, fun σ' ha hk => ?_⟩
      · rw [hxc, ex]; exact m1
      · rcases hk with ⟨hk, -⟩ | ⟨-, hk⟩
        · exact absurd hk hneg
        · have h7 : σ' 7 = upd (σ 7) g (σ 7 g - 1) := by
            have := hk.1
            rw [this]
            show upd (σ 7) (nI g).toNatClampNeg (σ 7 (nI g).toNatClampNeg - 1) = _
            rw [hcl]
          refine ⟨ha, nh, va_up cs1 g (l ++ r), fl1 ++ [x], hiv, Io_upd ho1 (fun g' hg' => ?_) hk.2.1 hk.2.2.1 hk.2.2.2.1 hk.2.2.2.2.1 hk.2.2.2.2.2⟩
          obtain ⟨nt, ld, tk, to, own, ρ, -, -, h3, -⟩ := ho1
          by_cases e : g' = g
          · rw [e, vu_s, h7, pk_us]
            refine ⟨?_, lrin⟩
            rw [h3 g hg, lvn_perm px, lvn_cons hlive, nI_sub1]
            congr 1
            exact (lvn_congr (fun c hc => by show α2 4 c = α1 4 c; rw [f4]; exact s1 c (lrne c hc))).symm
          · rw [vu_n e, h7, pk_un e]
            refine ⟨?_, fun c hc => hc⟩
            rw [h3 g' hg']
            congr 1
            exact (lvn_congr (fun c hc => by show α2 4 c = α1 4 c; rw [f4]; exact s1 c (fun e9 => oth g' hg' e c hc (e9 ▸ hxin)))).symm
  · refine ⟨-1, α, ⟨-1, α, Or.inl ⟨hh, rfl, rfl⟩, Or.inl ⟨m1_neg, rfl, rfl, rfl⟩⟩, fun σ' ha hk => ?_⟩
    rcases hk with ⟨-, hk⟩ | ⟨hk, -⟩
    · exact ⟨ha, nh, cs, fl, hv, Io_ko ho hk⟩
    · exact absurd m1_neg hk
theorem last_of : ∀ (l : List Nat), l ≠ [] → ∃ (l0 : List Nat) (x : Nat), l = l0 ++ [x]
  | [], h => absurd rfl h
  | [x], _ => ⟨[], x, rfl⟩
  | x :: y :: l, _ => by
    obtain ⟨l0, z, e⟩ := last_of (y :: l) (by simp)
    exact ⟨x :: l0, z, by rw [e]; rfl⟩
/-- a cell of the pile goes into a heap -/
theorem J_put {α σ : CS} {B nh : Nat} {cs : Nat → List Nat} {fl fl0 : List Nat} {g x : Nat} (k : Int32) (hv : Iv α nh cs fl) (ho : Io α σ nh cs B) (hg : g < nh) (ef : fl = fl0 ++ [x]) : ∃ (r2 : Int32) (α2 : CS), Md (take (nI x) k α) (α 7 g) (nI x) r2 α2 ∧ ∀ σ', Ac (va_up α2 7 (upd (α2 7) g r2)) σ' → Ko (ins0 (nI g) (nI x) σ) σ' → Jv (va_up α2 7 (upd (α2 7) g r2)) σ' B := by
  have hv0 := hv
  obtain ⟨i8, i10, b1, b2, it, ic, ifl, ifp, i4, i0⟩ := hv
  have hcl : (nI g).toNatClampNeg = g := nI_clamp (by omega)
  have hxfl : x ∈ fl := by rw [ef]; exact List.mem_append_right _ List.mem_cons_self
  have hx : x < 60 := ifl x hxfl
  have hxn : ∀ g', g' < nh → x ∉ cs g' := fun g' hg' h => Iv_fl hv0 hg' h hxfl
  have hnd := Iv_nd hv0 hg
  have hk := nI_c60 hx
  have t1 : ∀ d, d ≠ x → take (nI x) k α 1 d = α 1 d ∧ take (nI x) k α 2 d = α 2 d := fun d hd => by
    show upd (α 1) (nI x).toNatClampNeg (-1) d = α 1 d ∧ upd (α 2) (nI x).toNatClampNeg (-1) d = α 2 d
    rw [hk]; exact ⟨pk_un hd, pk_un hd⟩
  have t4 : ∀ d, d ≠ x → take (nI x) k α 4 d = α 4 d := fun d hd => by
    show upd (α 4) (nI x).toNatClampNeg 1 d = α 4 d
    rw [hk]; exact pk_un hd
  have t4x : take (nI x) k α 4 x = 1 := by
    show upd (α 4) (nI x).toNatClampNeg 1 x = 1
    rw [hk, pk_us]
  have tb1 : Bd (take (nI x) k α 1) := Bd_upd b1 Pt_m1
  have tb2 : Bd (take (nI x) k α 2) := Bd_upd b2 Pt_m1
  have tx : TR (take (nI x) k α 1) (take (nI x) k α 2) (nI x) [x] := by
    have a1 : take (nI x) k α 1 x = -1 := by show upd (α 1) (nI x).toNatClampNeg (-1) x = -1; rw [hk, pk_us]
    have a2 : take (nI x) k α 2 x = -1 := by show upd (α 2) (nI x).toNatClampNeg (-1) x = -1; rw [hk, pk_us]
    exact TR_node (l := []) (r := []) hx (by rw [a1]; exact TR_nil) (by rw [a2]; exact TR_nil) (List.Perm.refl _)
  have tg : TR (take (nI x) k α 1) (take (nI x) k α 2) (α 7 g) (cs g) := TR_frame (it g hg) (fun c hc => t1 c (fun e => hxn g hg (e ▸ hc)))
  have hnd2 : (cs g ++ [x]).Nodup := List.nodup_iff_count.mpr (fun a => by
    have q := nd_cnt hnd a
    rw [ef] at q
    simp only [List.count_append] at q ⊢
    omega)
  obtain ⟨r2, α2, m1, m2, m3, m4⟩ := Md_ok tg tx hnd2 tb1 tb2
  obtain ⟨d1, d2, -⟩ := Md_Bd m1
  have f4 : α2 4 = take (nI x) k α 4 := Md_ex m1 (by decide) (by decide) (by decide)
  have f5 : α2 5 = α 5 := (Md_ex (k := 5) m1 (by decide) (by decide) (by decide)).trans rfl
  have f6 : α2 6 = fun _ => α 6 0 - 1 := (Md_ex (k := 6) m1 (by decide) (by decide) (by decide)).trans rfl
  have f7 : α2 7 = α 7 := (Md_ex (k := 7) m1 (by decide) (by decide) (by decide)).trans rfl
  have f8 : α2 8 = α 8 := (Md_ex (k := 8) m1 (by decide) (by decide) (by decide)).trans rfl
  have ndf : x ∉ fl0 := by
    have q := nd_cnt (List.nodup_append.mp hnd).2.1 x
    rw [ef, List.count_append, List.count_cons_self] at q
    exact not_of_cnt (by omega)
  have hiv : Iv (va_up α2 7 (upd (α2 7) g r2)) nh (va_up cs g (cs g ++ [x])) fl0 := by
    refine Iv_upd hv0 hg (by show α2 8 0 = α 8 0; rw [f8]) d1 d2 ?_ (fun g' hg' e => ?_) (fun g' hg' e c hc => ?_) (fun c h60 => ?_) (fun c hc => ?_) ?_ (fun c hc => ?_) (fun c hc => ?_)
    · show TR (α2 1) (α2 2) (upd (α2 7) g r2 g) _
      rw [pk_us]; exact m2
    · show upd (α2 7) g r2 g' = α 7 g'
      rw [pk_un e, f7]
    · have hne : c ≠ x := fun e9 => hxn g' hg' (e9 ▸ hc)
      have q := m3 c (fun q => by
        rcases List.mem_append.mp q with q | q
        · exact Iv_dis hv0 hg' hg e hc q
        · exact hne (List.mem_singleton.mp q))
      refine ⟨q.1.trans (t1 c hne).1, q.2.trans (t1 c hne).2, ?_⟩
      show α2 4 c = α 4 c
      rw [f4]; exact t4 c hne
    · rw [ef]
      simp only [List.count_append]
      omega
    · exact ifl c (by rw [ef]; exact List.mem_append_left _ hc)
    · refine ⟨?_, ?_⟩
      · show α2 6 0 = nI fl0.length
        rw [f6, ifp.1, ef, List.length_append, List.length_singleton]
        exact nI_sub1
      · show Hl (α2 5) (fl0.map nI)
        rw [f5]
        have := ifp.2
        rw [ef, List.map_append] at this
        exact Hl_left this
    · show α2 4 c = 1 ∨ α2 4 c = 2
      rw [f4]
      rcases List.mem_append.mp hc with hc | hc
      · rw [t4 c (fun e => hxn g hg (e ▸ hc))]; exact i4 g hg c hc
      · rw [List.mem_singleton.mp hc]; exact Or.inl t4x
    · show α2 4 c = 0
      rw [f4, t4 c (fun e => ndf (e ▸ hc))]
      exact i0 c (by rw [ef]; exact List.mem_append_left _ hc)
  refine ⟨r2, α2, m1, fun σ' ha hk9 => ⟨ha, nh, _, fl0, hiv, ?_⟩⟩
  obtain ⟨nt, ld, tk, to, own, ρ, h1, h2, h3, h4, h5, h6⟩ := ho
  have e7 : σ' 7 = upd (σ 7) g (σ 7 g + 1) := by
    rw [hk9.1]
    show upd (σ 7) (nI g).toNatClampNeg (σ 7 (nI g).toNatClampNeg + 1) = _
    rw [hcl]
  have e8 : σ' 8 = upd (σ 8) x (σ 11 g) := by
    rw [hk9.2.1]
    show upd (σ 8) (nI x).toNatClampNeg (σ 11 (nI g).toNatClampNeg) = _
    rw [hcl, hk]
  have e9 : σ' 9 = σ 9 := hk9.2.2.1
  have e10 : σ' 10 = σ 10 := hk9.2.2.2.1
  have e11 : σ' 11 = σ 11 := hk9.2.2.2.2.1
  have e17 : σ' 17 = σ 17 := hk9.2.2.2.2.2
  refine ⟨nt, ld, va_up tk x (to g), to, own, ρ, by rw [e17]; exact h1, h2, fun g' hg' => ?_, fun g' hg' c hc => ?_, by rw [e11]; exact h5, by rw [e9, e10]; exact h6⟩
  · by_cases e : g' = g
    · rw [e, vu_s, e7, pk_us, h3 g hg, nI_1, lvn_app]
      congr 1
      have q1 : lvn (va_up α2 7 (upd (α2 7) g r2)) (cs g) = lvn α (cs g) := lvn_congr (fun c hc => by show α2 4 c = α 4 c; rw [f4]; exact t4 c (fun e9 => hxn g hg (e9 ▸ hc)))
      have q2 : lvn (va_up α2 7 (upd (α2 7) g r2)) [x] = 1 := lvn_one (by show α2 4 x = 1; rw [f4]; exact t4x)
      omega
    · rw [vu_n e, e7, pk_un e, h3 g' hg']
      congr 1
      exact (lvn_congr (fun c hc => by show α2 4 c = α 4 c; rw [f4]; exact t4 c (fun e9 => hxn g' hg' (e9 ▸ hc)))).symm
  · by_cases e : c = x
    · have hgg : g' = g := by
        by_cases e2 : g' = g
        · exact e2
        · rw [vu_n e2, e] at hc
          exact absurd hc (hxn g' hg')
      rw [e, e8, pk_us, show va_up tk x (to g) x = to g from by simp [va_up], hgg]
      exact ⟨(h5 g hg).1, (h5 g hg).2.1, (h5 g hg).2.2.1⟩
    · have hc2 : c ∈ cs g' := by
        by_cases e2 : g' = g
        · rw [e2, vu_s] at hc
          rcases List.mem_append.mp hc with hc | hc
          · rw [e2]; exact hc
          · exact absurd (List.mem_singleton.mp hc) e
        · rw [vu_n e2] at hc; exact hc
      rw [e8, pk_un e, show va_up tk x (to g) c = tk c from by simp [va_up, e]]
      exact h4 g' hg' c hc2
theorem J_insert {α σ : CS} {B : Nat} (hJ : Jv α σ B) (h k : Int32) : ∃ (r : Int32) (α' : CS), In α h k r α' ∧ ∀ σ', Ac α' σ' → ((r < 0 ∧ Ko σ σ') ∨ (¬ r < 0 ∧ Ko (ins0 h r σ) σ')) → Jv α' σ' B := by
  obtain ⟨hac, nh, cs, fl, hv, ho⟩ := hJ
  by_cases hh : isH α h
  · obtain ⟨g, hg, rfl⟩ := isH_of hv.1 hv.2.1 hh
    have h10 : nh ≤ 10 := hv.2.1
    have hcl : (nI g).toNatClampNeg = g := nI_clamp (by omega)
    obtain ⟨α1, cs1, fl1, c1, c2, c3⟩ : ∃ (α1 : CS) (cs1 : Nat → List Nat) (fl1 : List Nat), ((α 6 0 = 0 ∧ ∃ nh : Nat, α 8 0 = nI nh ∧ nh ≤ 10 ∧ Cl nh 0 α α1) ∨ (¬ α 6 0 = 0 ∧ α1 = α)) ∧ Iv α1 nh cs1 fl1 ∧ Sm α cs α1 cs1 nh := by
      by_cases h0 : α 6 0 = 0
      · obtain ⟨α', cs', fl', k1, k2, k3⟩ := Cl_ok nh 0 α cs fl (Nat.zero_add _) hv
        exact ⟨α', cs', fl', Or.inl ⟨h0, nh, hv.1, h10, k1⟩, k2, k3⟩
      · exact ⟨α, cs, fl, Or.inr ⟨h0, rfl⟩, hv, Sm_rf _ _ _⟩
    have ho1 := Io_sm ho c3
    have hvh : vp_in (nI g) 10 := vp_in_nI (by omega) (by decide)
    have hfp := c2.2.2.2.2.2.2.2.1
    have hfl60 : fl1.length ≤ 60 := by
      have q := nd_len 60 _ (List.nodup_append.mp (Iv_nd c2 hg)).2.1 c2.2.2.2.2.2.2.1
      exact q
    by_cases he : fl1 = []
    · have h60 : α1 6 0 = 0 := by rw [hfp.1, he]; rfl
      refine ⟨-2, α1, Or.inr ⟨hh, hvh, α1, c1, Or.inl ⟨h60, rfl, rfl⟩⟩, fun σ' ha hk => ?_⟩
      rcases hk with ⟨-, hk⟩ | ⟨hk, -⟩
      · exact ⟨ha, nh, cs1, fl1, c2, Io_ko ho1 hk⟩
      · exact absurd (by decide) hk
    · obtain ⟨fl0, x, ef⟩ := last_of fl1 he
      have hlen : fl1.length = fl0.length + 1 := by rw [ef, List.length_append, List.length_singleton]
      have e6 : α1 6 0 - 1 = nI fl0.length := by rw [hfp.1, hlen]; exact nI_sub1
      have hx : x < 60 := c2.2.2.2.2.2.2.1 x (by rw [ef]; exact List.mem_append_right _ List.mem_cons_self)
      have e5 : nI x = α1 5 (α1 6 0 - 1).toNatClampNeg := by
        rw [e6, nI_clamp (by omega)]
        have q := hfp.2
        rw [ef, List.map_append] at q
        have := Hl_mid (a := fl0.map nI) (b := []) (c := nI x) q
        rw [List.length_map] at this
        exact this.symm
      obtain ⟨r2, α2, m1, m2⟩ := J_put (σ := σ) k c2 ho1 hg ef
      refine ⟨nI x, va_up α2 7 (upd (α2 7) g r2), Or.inr ⟨hh, hvh, α1, c1, Or.inr ⟨?_, by rw [e6]; exact vp_in_nI (by omega) (by decide), e5, nI_in60 hx, r2, α2, by rw [hcl]; exact m1, by rw [hcl]⟩⟩, fun σ' ha hk => ?_⟩
      · rw [hfp.1]; exact nI_ne0 (by omega) (by omega)
      · rcases hk with ⟨hk, -⟩ | ⟨-, hk⟩
        · exact absurd hk (nI_n60 hx)
        · exact m2 σ' ha hk
  · refine ⟨-1, α, Or.inl ⟨hh, rfl, rfl⟩, fun σ' ha hk => ?_⟩
    rcases hk with ⟨-, hk⟩ | ⟨hk, -⟩
    · exact ⟨ha, nh, cs, fl, hv, Io_ko ho hk⟩
    · exact absurd m1_neg hk
end
section
/-- tokens: f leads on, always within an owner, and down in ρ -/
def Vd (F : Nat → Int32) (f own ρ : Nat → Nat) (nt : Nat) : Prop := ∀ t, t < nt → f t < nt ∧ F t = nI (f t) ∧ own (f t) = own t ∧ (f t ≠ t → ρ (f t) < ρ t)
theorem Ow_ok {own ρ : Nat → Nat} {nt : Nat} (hnt : nt ≤ 1100) : ∀ (N : Nat) (F : Nat → Int32) (f : Nat → Nat) (t : Nat), Vd F f own ρ nt → t < nt → ρ t ≤ N → ∃ (n : Nat) (F' : Nat → Int32) (f' : Nat → Nat) (u : Nat), Ow n F (nI t) F' (nI u) ∧ u < nt ∧ own u = own t ∧ f u = u ∧ Vd F' f' own ρ nt ∧ ∀ v, v < nt → (f' v = v ↔ f v = v) := by
  intro N
  induction N with
  | zero =>
    intro F f t hV ht hρ
    obtain ⟨h1, h2, h3, h4⟩ := hV t ht
    have e : f t = t := by
      by_cases e : f t = t
      · exact e
      · have := h4 e; omega
    exact ⟨0, F, f, t, ⟨vp_in_nI (by omega) (by decide), by rw [nI_clamp (by omega), h2, e], rfl, rfl⟩, ht, rfl, e, hV, fun _ _ => Iff.rfl⟩
  | succ N ih =>
    intro F f t hV ht hρ
    obtain ⟨h1, h2, h3, h4⟩ := hV t ht
    have hct : (nI t).toNatClampNeg = t := nI_clamp (by omega)
    by_cases e : f t = t
    · exact ⟨0, F, f, t, ⟨vp_in_nI (by omega) (by decide), by rw [hct, h2, e], rfl, rfl⟩, ht, rfl, e, hV, fun _ _ => Iff.rfl⟩
    · have hlt := h4 e
      obtain ⟨g1, g2, g3, g4⟩ := hV (f t) h1
      have hft : (nI (f t)).toNatClampNeg = f t := nI_clamp (by omega)
      have hρ2 : ρ (f (f t)) < ρ t := by
        by_cases e2 : f (f t) = f t
        · rw [e2]; exact hlt
        · have := g4 e2; omega
      have hne : f (f t) ≠ t := fun q => by rw [q] at hρ2; exact absurd hρ2 (Nat.lt_irrefl _)
      have hV1 : Vd (upd F t (nI (f (f t)))) (va_up f t (f (f t))) own ρ nt := by
        intro v hv
        by_cases ev : v = t
        · rw [ev, pk_us, show va_up f t (f (f t)) t = f (f t) from by simp [va_up]]
          exact ⟨g1, rfl, g3.trans h3, fun _ => hρ2⟩
        · rw [pk_un ev, show va_up f t (f (f t)) v = f v from by simp [va_up, ev]]
          exact hV v hv
      obtain ⟨n, F', f', u, k1, k2, k3, k4, k5, k6⟩ := ih _ _ (f (f t)) hV1 g1 (by omega)
      have hu : u ≠ t := fun q => by
        rw [q, show va_up f t (f (f t)) t = f (f t) from by simp [va_up]] at k4
        exact hne k4
      refine ⟨n + 1, F', f', u, ⟨vp_in_nI (by omega) (by decide), ?_, ?_, ?_⟩, k2, k3.trans (g3.trans h3), ?_, k5, fun v hv => ?_⟩
      · rw [hct, h2]; exact vp_in_nI (by omega) (by decide)
      · rw [hct, h2]; exact fun q => e ((nI_eq (by omega) (by omega)).mp q)
      · rw [hct, h2, hft, g2]; exact k1
      · rw [show va_up f t (f (f t)) u = f u from by simp [va_up, hu]] at k4; exact k4
      · rw [k6 v hv]
        by_cases ev : v = t
        · rw [ev, show va_up f t (f (f t)) t = f (f t) from by simp [va_up]]
          exact ⟨fun q => absurd q hne, fun q => absurd q e⟩
        · rw [show va_up f t (f (f t)) v = f v from by simp [va_up, ev]]
/-- the owner of a cell, by its token -/
theorem Io_own {α σ : CS} {nh B : Nat} {cs : Nat → List Nat} (ho : Io α σ nh cs B) (hB : B ≤ 1100) {g c : Nat} (hg : g < nh) (hc : c ∈ cs g) : ∃ (n : Nat) (ld : Nat → Int32) (t : Int32), Ow n (σ 9) (σ 8 c) ld t ∧ σ 10 t.toNatClampNeg = nI g ∧ Io α (va_up σ 9 ld) nh cs B := by
  obtain ⟨nt, ld, tk, to, own, ρ, h1, h2, h3, h4, h5, h6⟩ := ho
  obtain ⟨q1, q2, q3⟩ := h4 g hg c hc
  obtain ⟨n, F', f', u, k1, k2, k3, k4, k5, k6⟩ := Ow_ok (own := own) (ρ := ρ) (nt := nt) (by omega) (ρ (tk c)) (σ 9) ld (tk c) (fun t ht => ⟨(h6 t ht).1, (h6 t ht).2.1, (h6 t ht).2.2.1, (h6 t ht).2.2.2.2.1⟩) q1 (Nat.le_refl _)
  refine ⟨n, F', nI u, by rw [q2]; exact k1, ?_, nt, f', tk, to, own, ρ, h1, h2, h3, h4, fun h hh => ?_, fun t ht => ?_⟩
  · rw [nI_clamp (by omega), ((h6 u k2).2.2.2.2.2 k4).2.1, k3, q3]
  · obtain ⟨a, b, c, d⟩ := h5 h hh
    exact ⟨a, b, c, (k6 _ a).mpr d⟩
  · obtain ⟨a, b, c, d⟩ := k5 t ht
    have e := h6 t ht
    exact ⟨a, b, c, e.2.2.2.1, d, fun q => e.2.2.2.2.2 ((k6 t ht).mp q)⟩
theorem isL_nat {α : CS} {x : Int32} (h : vp_in x 60) : ∃ c, c < 60 ∧ x = nI c ∧ x.toNatClampNeg = c := by
  obtain ⟨c, h1, h2⟩ := vp_in_of h (by decide)
  exact ⟨c, h1, h2, by rw [h2]; exact nI_c60 h1⟩
theorem J_delete {α σ : CS} {B : Nat} (hJ : Jv α σ B) (hB : B ≤ 1100) (x : Int32) : ∃ (ld : Nat → Int32) (t : Int32), (isL α x → (∃ n, Ow n (σ 9) (σ 8 x.toNatClampNeg) ld t) ∧ vp_in (σ 10 t.toNatClampNeg) 10) ∧ (isL α x → ∀ σ', Ac (va_up α 4 (upd (α 4) x.toNatClampNeg 2)) σ' → Ko (del0 ld (σ 10 t.toNatClampNeg) σ) σ' → Jv (va_up α 4 (upd (α 4) x.toNatClampNeg 2)) σ' B) := by
  by_cases hL : isL α x
  · obtain ⟨hac, nh, cs, fl, hv, ho⟩ := hJ
    obtain ⟨c, hc, rfl, hcc⟩ := isL_nat (α := α) hL.1
    have h1 : α 4 c = 1 := by have := hL.2; rw [hcc] at this; exact this
    obtain ⟨g, hg, hin⟩ := Iv_used hv hc (by rw [h1]; decide)
    obtain ⟨n, ld, t, k1, k2, k3⟩ := Io_own ho hB hg hin
    have h10 : nh ≤ 10 := hv.2.1
    have hcl : (nI g).toNatClampNeg = g := nI_clamp (by omega)
    refine ⟨ld, t, fun _ => ⟨⟨n, by rw [hcc]; exact k1⟩, by rw [k2]; exact vp_in_nI (by omega) (by decide)⟩, fun _ σ' ha hk => ?_⟩
    rw [k2] at hk
    rw [hcc] at ha ⊢
    have hv0 := hv
    obtain ⟨i8, i10, b1, b2, it, ic, ifl, ifp, i4, i0⟩ := hv
    have s1 : ∀ d, d ≠ c → upd (α 4) c 2 d = α 4 d := fun d hd => pk_un hd
    refine ⟨ha, nh, cs, fl, ⟨i8, i10, b1, b2, it, ic, ifl, ifp, fun g' hg' d hd => ?_, fun d hd => ?_⟩, ?_⟩
    · show upd (α 4) c 2 d = 1 ∨ upd (α 4) c 2 d = 2
      by_cases e : d = c
      · rw [e, pk_us]; exact Or.inr rfl
      · rw [s1 d e]; exact i4 g' hg' d hd
    · show upd (α 4) c 2 d = 0
      rw [s1 d (fun e => Iv_fl hv0 hg hin (e ▸ hd))]; exact i0 d hd
    · refine Io_upd k3 (fun g' hg' => ⟨?_, fun d hd => hd⟩) hk.2.1 hk.2.2.1 hk.2.2.2.1 hk.2.2.2.2.1 hk.2.2.2.2.2
      obtain ⟨nt, l2, tk, to, own, ρ, -, -, h3, -⟩ := k3
      have e7 : σ' 7 = upd (σ 7) g (σ 7 g - 1) := by
        rw [hk.1]
        show upd (σ 7) (nI g).toNatClampNeg (σ 7 (nI g).toNatClampNeg - 1) = _
        rw [hcl]
      have h3' : ∀ h, h < nh → σ 7 h = nI (lvn α (cs h)) := h3
      by_cases e : g' = g
      · rw [e, e7, pk_us, h3' g hg]
        have p9 : (cs g).Perm (c :: (cs g).erase c) := List.perm_cons_erase hin
        have hnd : (cs g).Nodup := (List.nodup_append.mp (Iv_nd hv0 hg)).1
        have hne : ∀ d ∈ (cs g).erase c, d ≠ c := fun d hd e9 => by
          rw [e9] at hd
          exact (List.Nodup.mem_erase_iff hnd).mp hd |>.1 rfl
        rw [lvn_perm p9, lvn_cons h1, nI_sub1, lvn_perm p9]
        congr 1
        rw [show c :: (cs g).erase c = [c] ++ (cs g).erase c from rfl, lvn_app, lvn_0 (l := [c]) (fun d hd => by rw [List.mem_singleton.mp hd]; show ¬ upd (α 4) c 2 c = 1; rw [pk_us]; decide), Nat.zero_add]
        exact (lvn_congr (fun d hd => s1 d (hne d hd))).symm
      · rw [e7, pk_un e, h3' g' hg']
        congr 1
        exact (lvn_congr (fun d hd => s1 d (fun e9 => Iv_dis hv0 hg' hg e hd (e9 ▸ hin)))).symm
  · exact ⟨σ 9, 0, fun h => absurd h hL, fun h => absurd h hL⟩
/-- the search counts -/
def hitb (α : CS) (cell : Int32) (c : Nat) : Bool := if cell < 0 then decide (α 4 c = 1) else decide (nI c = cell)
theorem Lk_ok (α : CS) (cell : Int32) : ∀ (N : Nat) (stk : List Int32) (cs : List Nat) (m : Nat), cs.length ≤ N → FR (α 1) (α 2) stk cs → cs.Nodup → ∃ n, Lk α cell n stk (nI m) (nI (m + cs.countP (hitb α cell))) := by
  intro N
  induction N with
  | zero =>
    intro stk cs m hN hs hn
    have e : cs = [] := List.eq_nil_of_length_eq_zero (by omega)
    have e2 : stk = [] := List.eq_nil_of_length_eq_zero (by have := FR_len hs; omega)
    subst e; subst e2
    exact ⟨0, rfl, by simp⟩
  | succ N ih =>
    intro stk cs m hN hs hn
    cases stk with
    | nil =>
      have e : cs = [] := hs
      subst e
      exact ⟨0, rfl, by simp⟩
    | cons p st =>
      have hstk := FR_len hs
      have h60 := nd_len 60 cs hn (FR_lt hs)
      obtain ⟨c1, c2, h1, h2, h3, h4⟩ := hs
      obtain ⟨c, l, r, ep, hc, pc, tl, tr⟩ := TR_pos h3 h2
      have hpn : p.toNatClampNeg = c := by rw [ep]; exact nI_c60 hc
      have pcs : cs.Perm (c :: (r ++ (l ++ c2))) := by
        refine h1.trans ((pc.append_right c2).trans ?_)
        rw [List.cons_append, ← List.append_assoc]
        exact List.Perm.cons c (List.perm_append_comm.append_right c2)
      have hn2 := pcs.nodup_iff.mp hn
      rw [List.nodup_cons] at hn2
      have hlc := pcs.length_eq
      simp only [List.length_cons] at hlc
      obtain ⟨n, hk⟩ := ih (ph (α 2 c) (α 1 c) st) (r ++ (l ++ c2)) (m + if hitb α cell c = true then 1 else 0) (by omega) (FR_ph tr tl h4) hn2.2
      refine ⟨n + 1, p, st, rfl, by omega, by rw [ep]; exact nI_in60 hc, ?_⟩
      rw [hpn]
      have e1 : (if cell < 0 then (if α 4 c = 1 then nI m + 1 else nI m) else (if p = cell then nI m + 1 else nI m)) = nI (m + if hitb α cell c = true then 1 else 0) := by
        unfold hitb
        by_cases hz : cell < 0
        · rw [if_pos hz, if_pos hz]
          by_cases h9 : α 4 c = 1
          · rw [if_pos h9, if_pos (by simpa using h9)]; exact nI_1 m
          · rw [if_neg h9, if_neg (by simpa using h9)]; rfl
        · rw [if_neg hz, if_neg hz]
          by_cases h9 : p = cell
          · rw [if_pos h9, if_pos (by rw [← ep]; simpa using h9)]; exact nI_1 m
          · rw [if_neg h9, if_neg (by rw [← ep]; simpa using h9)]; rfl
      have e2 : m + cs.countP (hitb α cell) = (m + if hitb α cell c = true then 1 else 0) + (r ++ (l ++ c2)).countP (hitb α cell) := by
        rw [pcs.countP_eq, List.countP_cons]
        omega
      rw [e1, e2]
      exact hk
theorem Lk_top {α : CS} {p : Int32} {cs : List Nat} (cell : Int32) (ht : TR (α 1) (α 2) p cs) (hn : cs.Nodup) : ∃ n, Lk α cell n (if p < 0 then [] else [p]) 0 (nI (cs.countP (hitb α cell))) := by
  have hf : FR (α 1) (α 2) (if p < 0 then [] else [p]) cs := by
    by_cases h : p < 0
    · rw [if_pos h, (TR_neg ht h).2]; rfl
    · rw [if_neg h]; exact FR_one h ht
  obtain ⟨n, h⟩ := Lk_ok α cell _ _ cs 0 (Nat.le_refl _) hf hn
  rw [Nat.zero_add, nI_0] at h
  exact ⟨n, h⟩
theorem J_nh {α σ : CS} {B : Nat} (hJ : Jv α σ B) : ∃ nh, α 8 0 = nI nh ∧ nh ≤ 10 := by
  obtain ⟨-, nh, cs, fl, hv, -⟩ := hJ
  exact ⟨nh, hv.1, hv.2.1⟩
theorem J_size {α σ : CS} {B : Nat} (hJ : Jv α σ B) (h : Int32) : isH α h → ∃ n, Lk α (-1) n (if α 7 h.toNatClampNeg < 0 then [] else [α 7 h.toNatClampNeg]) 0 (σ 7 h.toNatClampNeg) := by
  obtain ⟨hac, nh, cs, fl, hv, ho⟩ := hJ
  intro hh
  obtain ⟨g, hg, rfl⟩ := isH_of hv.1 hv.2.1 hh
  have h10 : nh ≤ 10 := hv.2.1
  rw [nI_clamp (by omega)]
  obtain ⟨n, hk⟩ := Lk_top (-1) (hv.2.2.2.2.1 g hg) (List.nodup_append.mp (Iv_nd hv hg)).1
  obtain ⟨nt, ld, tk, to, own, ρ, -, -, h3, -⟩ := ho
  rw [h3 g hg]
  refine ⟨n, ?_⟩
  have e : (cs g).countP (hitb α (-1)) = lvn α (cs g) := List.countP_congr (fun c _ => by unfold hitb; rw [if_pos m1_neg])
  rw [← e]
  exact hk
theorem Ho_ok {α : CS} {nh : Nat} {cs : Nat → List Nat} {fl : List Nat} (hv : Iv α nh cs fl) {c g : Nat} (hc : c < 60) (hg : g < nh) (hin : c ∈ cs g) : ∀ (n h : Nat) (f : Int32), h + n = nh → (h ≤ g ∨ f = nI g) → Ho α (nI c) n h f (nI g)
  | 0, h, f, hh, hf => (hf.resolve_left (by omega)).symm
  | n + 1, h, f, hh, hf => by
    have h10 : nh ≤ 10 := hv.2.1
    have hlt : h < nh := by omega
    have htr := hv.2.2.2.2.1 h hlt
    have hnd := (List.nodup_append.mp (Iv_nd hv hlt)).1
    obtain ⟨k, hk⟩ := Lk_top (nI c) htr hnd
    have hcnt : (cs h).countP (hitb α (nI c)) = (cs h).count c := by
      rw [List.count_eq_countP]
      refine List.countP_congr (fun d hd => ?_)
      have hd60 := TR_lt htr d hd
      unfold hitb
      rw [if_neg (nI_n60 hc)]
      simp only [decide_eq_true_eq, beq_iff_eq]
      exact nI_eq (by omega) (by omega)
    rw [hcnt] at hk
    refine ⟨_, k, hk, Ho_ok hv hc hg hin n (h + 1) _ (by omega) ?_⟩
    by_cases e : h = g
    · right
      rw [e, if_neg]
      have h1 := cnt_of_mem hin
      have h2 := nd_cnt (List.nodup_append.mp (Iv_nd hv hg)).1 c
      exact nI_nle h1 (by omega)
    · have hn : c ∉ cs h := Iv_dis hv hg hlt (fun q => e q.symm) hin
      rw [cnt_of_not hn, if_pos (by decide +kernel)]
      rcases hf with hf | hf
      · left; omega
      · right; exact hf
theorem J_node {α σ : CS} {B : Nat} (hJ : Jv α σ B) (hB : B ≤ 1100) (x : Int32) : ∃ (ld : Nat → Int32) (t : Int32) (nh : Nat), α 8 0 = nI nh ∧ nh ≤ 10 ∧ (vp_in x 60 → ¬ α 4 x.toNatClampNeg = 0 → (∃ n, Ow n (σ 9) (σ 8 x.toNatClampNeg) ld t) ∧ Ho α x nh 0 (-1) (σ 10 t.toNatClampNeg)) ∧ ∀ σ', Ac α σ' → (Ko σ σ' ∨ Ko (va_up σ 9 ld) σ') → Jv α σ' B := by
  obtain ⟨hac, nh, cs, fl, hv, ho⟩ := hJ
  by_cases hx : vp_in x 60 ∧ ¬ α 4 x.toNatClampNeg = 0
  · obtain ⟨hx, h0⟩ := hx
    obtain ⟨c, hc, rfl, hcc⟩ := isL_nat (α := α) hx
    rw [hcc] at h0 ⊢
    obtain ⟨g, hg, hin⟩ := Iv_used hv hc h0
    obtain ⟨n, ld, t, k1, k2, k3⟩ := Io_own ho hB hg hin
    refine ⟨ld, t, nh, hv.1, hv.2.1, fun _ _ => ⟨⟨n, k1⟩, by rw [k2]; exact Ho_ok hv hc hg hin nh 0 (-1) (Nat.zero_add _) (Or.inl (Nat.zero_le _))⟩, fun σ' ha hk => ⟨ha, nh, cs, fl, hv, ?_⟩⟩
    rcases hk with hk | hk
    · exact Io_ko ho hk
    · exact Io_ko k3 hk
  · refine ⟨σ 9, 0, nh, hv.1, hv.2.1, fun h1 h2 => absurd ⟨h1, h2⟩ hx, fun σ' ha hk => ⟨ha, nh, cs, fl, hv, ?_⟩⟩
    rcases hk with hk | hk
    · exact Io_ko ho hk
    · exact Io_ko ho (Ko_tr ⟨rfl, rfl, rfl, rfl, rfl, rfl⟩ hk)
theorem J_tok {α σ : CS} {B : Nat} (hJ : Jv α σ B) (hB : B < 1100) : vp_in (σ 17 0) 1100 := by
  obtain ⟨-, nh, cs, fl, -, nt, ld, tk, to, own, ρ, h1, h2, -⟩ := hJ
  rw [h1]; exact vp_in_nI (by omega) (by decide)
theorem J_tokOf {α σ : CS} {B : Nat} (hJ : Jv α σ B) (hB : B < 1100) (h : Int32) : isH α h → vp_in (σ 11 h.toNatClampNeg) 1100 := by
  obtain ⟨hac, nh, cs, fl, hv, nt, ld, tk, to, own, ρ, h1, h2, h3, h4, h5, h6⟩ := hJ
  intro hh
  obtain ⟨g, hg, rfl⟩ := isH_of hv.1 hv.2.1 hh
  have h10 : nh ≤ 10 := hv.2.1
  rw [nI_clamp (by omega), (h5 g hg).2.1]
  have := (h5 g hg).1
  exact vp_in_nI (by omega) (by decide)
end
section
theorem vf_s {f : Nat → Nat} {h l : Nat} : va_up f h l h = l := by simp [va_up]
theorem vf_n {f : Nat → Nat} {h g l : Nat} (e : g ≠ h) : va_up f h l g = f g := by simp [va_up, e]
/-- the tokens of two heaps are united -/
theorem Io_meld {α α' σ σ' : CS} {nh B d s : Nat} {cs : Nat → List Nat} (ho : Io α σ nh cs B) (hB : B < 1100) (hnh : nh ≤ 10) (hd : d < nh) (hs : s < nh) (hne : d ≠ s) (hk : Ko (mld0 (nI d) (nI s) σ) σ') (hl : ∀ g, g < nh → ∀ c ∈ cs g, α' 4 c = α 4 c) : Io α' σ' nh (va_up (va_up cs d (cs d ++ cs s)) s []) (B + 1) := by
  obtain ⟨nt, ld, tk, to, own, ρ, h1, h2, h3, h4, h5, h6⟩ := ho
  have cd : (nI d).toNatClampNeg = d := nI_clamp (by omega)
  have cs_ : (nI s).toNatClampNeg = s := nI_clamp (by omega)
  have ct : (σ 17 0).toNatClampNeg = nt := by rw [h1]; exact nI_clamp (by omega)
  have ts := h5 s hs
  have td := h5 d hd
  have cts : (σ 11 s).toNatClampNeg = to s := by rw [ts.2.1]; exact nI_clamp (by omega)
  have e7 : σ' 7 = upd (upd (σ 7) d (σ 7 d + σ 7 s)) s 0 := by
    rw [hk.1]
    show upd (upd (σ 7) (nI d).toNatClampNeg (σ 7 (nI d).toNatClampNeg + σ 7 (nI s).toNatClampNeg)) (nI s).toNatClampNeg 0 = _
    rw [cd, cs_]
  have e8 : σ' 8 = σ 8 := hk.2.1
  have e9 : σ' 9 = upd (upd (σ 9) (to s) (nI (to d))) nt (nI nt) := by
    rw [hk.2.2.1]
    show upd (upd (σ 9) (σ 11 (nI s).toNatClampNeg).toNatClampNeg (σ 11 (nI d).toNatClampNeg)) (σ 17 0).toNatClampNeg (σ 17 0) = _
    rw [cd, cs_, ct, cts, td.2.1, h1]
  have e10 : σ' 10 = upd (σ 10) nt (nI s) := by
    rw [hk.2.2.2.1]
    show upd (σ 10) (σ 17 0).toNatClampNeg (nI s) = _
    rw [ct]
  have e11 : σ' 11 = upd (σ 11) s (nI nt) := by
    rw [hk.2.2.2.2.1]
    show upd (σ 11) (nI s).toNatClampNeg (σ 17 0) = _
    rw [cs_, h1]
  have e17 : σ' 17 0 = nI (nt + 1) := by
    rw [hk.2.2.2.2.2]
    show σ 17 0 + 1 = _
    rw [h1]; exact nI_1 nt
  have tne : to d ≠ to s := fun q => hne (by rw [← td.2.2.1, q]; exact ts.2.2.1)
  have nets : to s ≠ nt := Nat.ne_of_lt ts.1
  have netd : to d ≠ nt := Nat.ne_of_lt td.1
  refine ⟨nt + 1, va_up (va_up ld (to s) (to d)) nt nt, tk, va_up to s nt, fun t => if t = nt then s else if own t = s then d else own t, fun t => if t = nt then 0 else if ld t = t then (if t = to s then 1 else 0) else ρ t + 1, e17, by omega, fun g hg => ?_, fun g hg c hc => ?_, fun g hg => ?_, fun t ht => ?_⟩
  · have lc : ∀ g, g < nh → lvn α' (cs g) = lvn α (cs g) := fun g hg => lvn_congr (fun c hc => hl g hg c hc)
    by_cases es : g = s
    · rw [es, vu_s, e7, pk_us]; rfl
    · rw [vu_n es, e7, pk_un es]
      by_cases ed : g = d
      · rw [ed, vu_s, pk_us, h3 d hd, h3 s hs, nI_add, lvn_app, lc d hd, lc s hs]
      · rw [vu_n ed, pk_un ed, h3 g hg, lc g hg]
  · by_cases es : g = s
    · rw [es, vu_s] at hc; exact (List.not_mem_nil hc).elim
    · rw [vu_n es] at hc
      by_cases ed : g = d
      · rw [ed, vu_s] at hc
        rcases List.mem_append.mp hc with hc | hc
        · obtain ⟨a, b, q⟩ := h4 d hd c hc
          refine ⟨by omega, by rw [e8]; exact b, ?_⟩
          show (if tk c = nt then s else if own (tk c) = s then d else own (tk c)) = g
          rw [if_neg (by omega), q, if_neg hne, ed]
        · obtain ⟨a, b, q⟩ := h4 s hs c hc
          refine ⟨by omega, by rw [e8]; exact b, ?_⟩
          show (if tk c = nt then s else if own (tk c) = s then d else own (tk c)) = g
          rw [if_neg (by omega), if_pos q, ed]
      · rw [vu_n ed] at hc
        obtain ⟨a, b, q⟩ := h4 g hg c hc
        refine ⟨by omega, by rw [e8]; exact b, ?_⟩
        show (if tk c = nt then s else if own (tk c) = s then d else own (tk c)) = g
        rw [if_neg (by omega), q, if_neg es]
  · by_cases es : g = s
    · rw [es, vf_s, e11, pk_us]
      exact ⟨by omega, rfl, if_pos rfl, vf_s⟩
    · obtain ⟨a, b, q, w⟩ := h5 g hg
      have n1 : to g ≠ nt := Nat.ne_of_lt a
      have n2 : to g ≠ to s := fun z => es (by rw [← q, z]; exact ts.2.2.1)
      rw [vf_n es, e11, pk_un es]
      refine ⟨by omega, b, ?_, by rw [vf_n n1, vf_n n2]; exact w⟩
      show (if to g = nt then s else if own (to g) = s then d else own (to g)) = g
      rw [if_neg n1, q, if_neg es]
  · by_cases et : t = nt
    · rw [et, vf_s, e9, pk_us, e10, pk_us]
      refine ⟨by omega, rfl, rfl, ?_, fun z => absurd rfl z, fun _ => ⟨?_, ?_, if_pos rfl⟩⟩
      · show (if nt = nt then s else if own nt = s then d else own nt) < nh
        rw [if_pos rfl]; exact hs
      · show va_up to s nt (if nt = nt then s else if own nt = s then d else own nt) = nt
        rw [if_pos rfl, vf_s]
      · show nI s = nI (if nt = nt then s else if own nt = s then d else own nt)
        rw [if_pos rfl]
    · have htn : t < nt := by omega
      obtain ⟨a, b, q, w, x, y⟩ := h6 t htn
      rw [vf_n et, e9, pk_un et, e10, pk_un et]
      by_cases ets : t = to s
      · rw [ets, vf_s, pk_us]
        refine ⟨by omega, rfl, ?_, ?_, fun _ => ?_, fun z => absurd z tne⟩
        · show (if to d = nt then s else if own (to d) = s then d else own (to d)) = (if to s = nt then s else if own (to s) = s then d else own (to s))
          rw [if_neg netd, if_neg nets, td.2.2.1, if_neg hne, if_pos ts.2.2.1]
        · show (if to s = nt then s else if own (to s) = s then d else own (to s)) < nh
          rw [if_neg nets, if_pos ts.2.2.1]; exact hd
        · show (if to d = nt then 0 else if ld (to d) = to d then (if to d = to s then 1 else 0) else ρ (to d) + 1) < (if to s = nt then 0 else if ld (to s) = to s then (if to s = to s then 1 else 0) else ρ (to s) + 1)
          rw [if_neg netd, if_pos td.2.2.2, if_neg tne, if_neg nets, if_pos ts.2.2.2, if_pos rfl]
          exact Nat.zero_lt_one
      · rw [vf_n ets, pk_un ets]
        have nl : ld t ≠ nt := Nat.ne_of_lt a
        refine ⟨by omega, b, ?_, ?_, fun z => ?_, fun z => ?_⟩
        · show (if ld t = nt then s else if own (ld t) = s then d else own (ld t)) = (if t = nt then s else if own t = s then d else own t)
          rw [if_neg nl, if_neg et, q]
        · show (if t = nt then s else if own t = s then d else own t) < nh
          rw [if_neg et]
          split
          · exact hd
          · exact w
        · show (if ld t = nt then 0 else if ld (ld t) = ld t then (if ld t = to s then 1 else 0) else ρ (ld t) + 1) < (if t = nt then 0 else if ld t = t then (if t = to s then 1 else 0) else ρ t + 1)
          have := x z
          rw [if_neg nl, if_neg et, if_neg z]
          split
          · split
            · omega
            · omega
          · omega
        · obtain ⟨y1, y2, y3⟩ := y z
          have no : own t ≠ s := fun q9 => ets (by rw [q9] at y1; exact y1.symm)
          refine ⟨?_, ?_, ?_⟩
          · show va_up to s nt (if t = nt then s else if own t = s then d else own t) = t
            rw [if_neg et, if_neg no, vf_n no]; exact y1
          · show σ 10 t = nI (if t = nt then s else if own t = s then d else own t)
            rw [if_neg et, if_neg no]; exact y2
          · show (if t = nt then 0 else if ld t = t then (if t = to s then 1 else 0) else ρ t + 1) = 0
            rw [if_neg et, if_pos z, if_neg ets]
theorem J_meld {α σ : CS} {B : Nat} (hJ : Jv α σ B) (hB : B < 1100) (d1 s1 : Int32) : ∃ (r : Int32) (α' : CS), Ml α d1 s1 r α' ∧ ∀ σ', Ac α' σ' → ((r = -1 ∧ Ko σ σ') ∨ (r = 0 ∧ Ko (mld0 d1 s1 σ) σ')) → Jv α' σ' (B + 1) := by
  have hJ0 := hJ
  obtain ⟨hac, nh, cs, fl, hv, ho⟩ := hJ
  by_cases hh : isH α d1 ∧ isH α s1 ∧ ¬ d1 = s1
  · have hh0 := hh
    obtain ⟨hd0, hs0, hne0⟩ := hh
    obtain ⟨d, hd, rfl⟩ := isH_of hv.1 hv.2.1 hd0
    obtain ⟨s, hs, rfl⟩ := isH_of hv.1 hv.2.1 hs0
    have hne : d ≠ s := fun e => hne0 (by rw [e])
    have h10 : nh ≤ 10 := hv.2.1
    have cd : (nI d).toNatClampNeg = d := nI_clamp (by omega)
    have cs_ : (nI s).toNatClampNeg = s := nI_clamp (by omega)
    have hv0 := hv
    obtain ⟨i8, i10, b1, b2, it, ic, ifl, ifp, i4, i0⟩ := hv
    obtain ⟨r2, α1, m1, m2, m3, m4⟩ := Md_ok (it d hd) (it s hs) (Iv_nd2 hv0 hd hs hne) b1 b2
    obtain ⟨k1, k2, -⟩ := Md_Bd m1
    have f4 : α1 4 = α 4 := Md_ex m1 (by decide) (by decide) (by decide)
    have f5 : α1 5 = α 5 := Md_ex m1 (by decide) (by decide) (by decide)
    have f6 : α1 6 = α 6 := Md_ex m1 (by decide) (by decide) (by decide)
    have f7 : α1 7 = α 7 := Md_ex m1 (by decide) (by decide) (by decide)
    have f8 : α1 8 = α 8 := Md_ex m1 (by decide) (by decide) (by decide)
    refine ⟨0, va_up α1 7 (upd (upd (α1 7) d r2) s (-1)), Or.inr ⟨hh0, rfl, vp_in_nI (by omega) (by decide), vp_in_nI (by omega) (by decide), r2, α1, by rw [cd, cs_]; exact m1, by rw [cd, cs_]⟩, fun σ' ha hk => ?_⟩
    have hk : Ko (mld0 (nI d) (nI s) σ) σ' := by
      rcases hk with ⟨hk, -⟩ | ⟨-, hk⟩
      · exact absurd hk (by decide)
      · exact hk
    refine ⟨ha, nh, va_up (va_up cs d (cs d ++ cs s)) s [], fl, ⟨?_, h10, k1, k2, fun g hg => ?_, fun c h60 => ?_, ifl, ?_, fun g hg c hc => ?_, fun c hc => ?_⟩, Io_meld ho hB h10 hd hs hne hk (fun g hg c hc => ?_)⟩
    · show α1 8 0 = nI nh
      rw [f8]; exact i8
    · show TR (α1 1) (α1 2) (upd (upd (α1 7) d r2) s (-1) g) _
      by_cases es : g = s
      · rw [es, vu_s, pk_us]; exact TR_nil
      · rw [vu_n es, pk_un es]
        by_cases ed : g = d
        · rw [ed, vu_s, pk_us]; exact m2
        · rw [vu_n ed, pk_un ed, f7]
          exact TR_frame (it g hg) (fun c hc => m3 c (fun q => by
            rcases List.mem_append.mp q with q | q
            · exact Iv_dis hv0 hg hd ed hc q
            · exact Iv_dis hv0 hg hs es hc q))
    · have q1 := cn_up (va_up cs d (cs d ++ cs s)) c s [] nh hs
      have q2 := cn_up cs c d (cs d ++ cs s) nh hd
      have q3 := ic c h60
      rw [vu_n (fun e => hne e.symm)] at q1
      simp only [List.count_append, List.count_nil] at q1 q2
      omega
    · unfold Fp
      show α1 6 0 = _ ∧ Hl (α1 5) _
      rw [f5, f6]; exact ifp
    · show α1 4 c = 1 ∨ α1 4 c = 2
      rw [f4]
      by_cases es : g = s
      · rw [es, vu_s] at hc; exact (List.not_mem_nil hc).elim
      · rw [vu_n es] at hc
        by_cases ed : g = d
        · rw [ed, vu_s] at hc
          rcases List.mem_append.mp hc with hc | hc
          · exact i4 d hd c hc
          · exact i4 s hs c hc
        · rw [vu_n ed] at hc; exact i4 g hg c hc
    · show α1 4 c = 0
      rw [f4]; exact i0 c hc
    · show α1 4 c = α 4 c
      rw [f4]
  · refine ⟨-1, α, Or.inl ⟨hh, rfl, rfl⟩, fun σ' ha hk => ?_⟩
    rcases hk with ⟨-, hk⟩ | ⟨hk, -⟩
    · exact ⟨ha, nh, cs, fl, hv, Io_le (Io_ko ho hk) (by omega)⟩
    · exact absurd hk (by decide)
theorem J_new {α σ : CS} {B : Nat} (hJ : Jv α σ B) (hB : B < 1100) : (α 8 0 = 10 ∨ vp_in (α 8 0) 10) ∧ (¬ α 8 0 = 10 → Jv (nhp1 α) (nhp0 σ) (B + 1)) := by
  obtain ⟨hac, nh, cs, fl, hv, ho⟩ := hJ
  have hv0 := hv
  obtain ⟨i8, i10, b1, b2, it, ic, ifl, ifp, i4, i0⟩ := hv
  refine ⟨?_, fun hn => ?_⟩
  · by_cases e : nh = 10
    · left; rw [i8, e]; rfl
    · right; rw [i8]; exact vp_in_nI (by omega) (by decide)
  · have hlt : nh < 10 := by
      by_cases e : nh = 10
      · exact absurd (by rw [i8, e]; rfl) hn
      · omega
    have cnh : (nI nh).toNatClampNeg = nh := nI_clamp (by omega)
    have a16 : σ 16 0 = nI nh := by rw [hac.2.2.2.2.2.2.2.2]; exact i8
    refine ⟨?_, nh + 1, va_up cs nh [], fl, ⟨?_, by omega, b1, b2, fun g hg => ?_, fun c h60 => ?_, ifl, ifp, fun g hg c hc => ?_, i0⟩, ?_⟩
    · obtain ⟨a0, a1, a2, a3, a4, a5, a6, a7, a8⟩ := hac
      refine ⟨a0, a1, a2, a3, a4, a5, a6, ?_, ?_⟩
      · show upd (σ 6) (σ 16 0).toNatClampNeg (-1) = upd (α 7) (α 8 0).toNatClampNeg (-1)
        rw [a7, a8]
      · show σ 16 0 + 1 = α 8 0 + 1
        rw [a8]
    · show α 8 0 + 1 = nI (nh + 1)
      rw [i8]; exact nI_1 nh
    · show TR (α 1) (α 2) (upd (α 7) (α 8 0).toNatClampNeg (-1) g) _
      rw [i8, cnh]
      by_cases e : g = nh
      · rw [e, vu_s, pk_us]; exact TR_nil
      · rw [vu_n e, pk_un e]; exact it g (by omega)
    · show cn (va_up cs nh []) c nh + (va_up cs nh [] nh).count c + fl.count c = 1
      rw [cn_ge cs c nh [] nh (Nat.le_refl _), vu_s, List.count_nil]
      have := ic c h60
      omega
    · by_cases e : g = nh
      · rw [e, vu_s] at hc; exact (List.not_mem_nil hc).elim
      · rw [vu_n e] at hc; exact i4 g (by omega) c hc
    · obtain ⟨nt, ld, tk, to, own, ρ, h1, h2, h3, h4, h5, h6⟩ := ho
      have ct : (σ 17 0).toNatClampNeg = nt := by rw [h1]; exact nI_clamp (by omega)
      have e7 : nhp0 σ 7 = upd (σ 7) nh 0 := by
        show upd (σ 7) (σ 16 0).toNatClampNeg 0 = _
        rw [a16, cnh]
      have e9 : nhp0 σ 9 = upd (σ 9) nt (nI nt) := by
        show upd (σ 9) (σ 17 0).toNatClampNeg (σ 17 0) = _
        rw [ct, h1]
      have e10 : nhp0 σ 10 = upd (σ 10) nt (nI nh) := by
        show upd (σ 10) (σ 17 0).toNatClampNeg (σ 16 0) = _
        rw [ct, a16]
      have e11 : nhp0 σ 11 = upd (σ 11) nh (nI nt) := by
        show upd (σ 11) (σ 16 0).toNatClampNeg (σ 17 0) = _
        rw [a16, cnh, h1]
      have e17 : nhp0 σ 17 0 = nI (nt + 1) := by
        show σ 17 0 + 1 = _
        rw [h1]; exact nI_1 nt
      refine ⟨nt + 1, va_up ld nt nt, tk, va_up to nh nt, va_up own nt nh, va_up ρ nt 0, e17, by omega, fun g hg => ?_, fun g hg c hc => ?_, fun g hg => ?_, fun t ht => ?_⟩
      · by_cases e : g = nh
        · rw [e, vu_s, e7, pk_us]; rfl
        · rw [vu_n e, e7, pk_un e]; exact h3 g (by omega)
      · by_cases e : g = nh
        · rw [e, vu_s] at hc; exact (List.not_mem_nil hc).elim
        · rw [vu_n e] at hc
          obtain ⟨a, b, q⟩ := h4 g (by omega) c hc
          exact ⟨by omega, b, by rw [vf_n (by omega)]; exact q⟩
      · by_cases e : g = nh
        · rw [e, vf_s, vf_s, vf_s, e11, pk_us]
          exact ⟨by omega, rfl, rfl, rfl⟩
        · obtain ⟨a, b, q, w⟩ := h5 g (by omega)
          rw [vf_n e, e11, pk_un e, vf_n (Nat.ne_of_lt a), vf_n (Nat.ne_of_lt a)]
          exact ⟨by omega, b, q, w⟩
      · by_cases et : t = nt
        · rw [et, vf_s, vf_s, vf_s, e9, pk_us, e10, pk_us, vf_s]
          exact ⟨by omega, rfl, rfl, by omega, fun z => absurd rfl z, fun _ => ⟨rfl, rfl, rfl⟩⟩
        · obtain ⟨a, b, q, w, x, y⟩ := h6 t (by omega)
          rw [vf_n et, vf_n et, vf_n et, e9, pk_un et, e10, pk_un et, vf_n (Nat.ne_of_lt a), vf_n (Nat.ne_of_lt a), vf_n (Nat.ne_of_lt w)]
          exact ⟨by omega, b, q, by omega, x, y⟩
/-- the start, and every new start -/
theorem J_init {σ τ : CS} (e12 : σ 12 = τ 5) (h5 : ∀ j, j < 60 → τ 5 j = 59 - nI j) (h4 : ∀ j, j < 60 → τ 4 j = 0) (u4 : ∀ j, j < 60 → σ 4 j = 0) (e0 : σ 0 = τ 0) (e1 : σ 1 = τ 1) (e2 : σ 2 = τ 2) (e3 : σ 3 = τ 3) (e6 : σ 6 = τ 7) (s15 : σ 15 0 = 60) (s16 : σ 16 0 = 0) (s17 : σ 17 0 = 0) (t6 : τ 6 0 = 60) (t8 : τ 8 0 = 0) (b1 : Bd (τ 1)) (b2 : Bd (τ 2)) : Jv τ σ 0 := by
  refine ⟨⟨e0, e1, e2, e3, fun i hi => Or.inl ⟨h4 i hi, u4 i hi⟩, e12, by rw [s15, t6], e6, by rw [s16, t8]⟩, 0, fun _ => [], (List.range 60).map (fun j => 59 - j), ⟨by rw [t8]; rfl, by decide, b1, b2, fun h hh => absurd hh (Nat.not_lt_zero _), ?_, ?_, ⟨by rw [t6]; rfl, fun j hj => ?_⟩, fun h hh => absurd hh (Nat.not_lt_zero _), ?_⟩, 0, id, id, id, id, id, by rw [s17]; rfl, Nat.le_refl _, fun h hh => absurd hh (Nat.not_lt_zero _), fun h hh => absurd hh (Nat.not_lt_zero _), fun h hh => absurd hh (Nat.not_lt_zero _), fun h hh => absurd hh (Nat.not_lt_zero _)⟩
  · intro c hc
    show 0 + _ = 1
    rw [Nat.zero_add]
    revert c
    decide +kernel
  · intro c hc
    obtain ⟨j, h1, h2⟩ := List.mem_map.mp hc
    have := List.mem_range.mp h1
    omega
  · have hj : j < 60 := by simpa using hj
    rw [h5 j hj]
    revert j
    decide +kernel
  · intro c hc
    obtain ⟨j, h1, h2⟩ := List.mem_map.mp hc
    have := List.mem_range.mp h1
    exact h4 c (by omega)
end
section
/-! THE CLAIM OUT OF ONE WALK OF THE LAW'S BODY. Your part is whole_start (and what it stands on); all else here is the same for every law, but numbers. -/
def R_law : String := "LeftistHeapsLaw"
def lw_P (b : Addr) (xs : List Int32) (args : Array Value) (s : State) : Prop := args = #[.ref b] ∧ s.IntsAt b xs ∧ xs.length ≤ 1536 ∧ (Jvm.Cond.and given_1 narrow_1).before args s = true
def lw_Q (_ : Array Value) (s : State) (o : Outcome) (t : State) : Prop := o = .returned (some (.int 1)) ∧ Framed s o t [] 600000 7290000
def lw_Z (below : List Frame) (a : Array Value) (s : State) : State → Prop := fun t => ∃ o, t.status = .running ∧ Ended t below o ∧ lw_Q a s o t
/-- the law's own end, with 1 on the stack, nothing written that was there before, its room as the claim has it -/
theorem lw_ret {p : Program} {l : Launch} {e : Env} {s : State} {m : MethodId} {below : List Frame} {meth : Method} {c : Code} {b : Nat} (hx : p.tables.exec = Jvm.exec) (hb : c.code = code) (hr : meth.sig.returnType = ret) (hlocks : meth.locks = false) {pc : Nat} {H : Heap} {ls : Array Slot} (hdg : decode code pc = .ok (.ireturn, 1)) : W p l e room_1 s m #[Value.ref b] below meth c H [] 600000 7290000 (lw_Z below #[Value.ref b] s) (F0 m pc ls [.int 1]) := by
  intro T hT X
  obtain ⟨fs, hret, hrun, hended, hW, hframe⟩ := X.leave (v := some (.int 1)) (hlocks := hlocks) (fun h => by rw [hr] at h; cases h)
  have hmeth' : T.vm.method? m = some meth := X.method'
  refine ⟨T.setFrames fs, ?_, .returned (some (.int 1)), hrun, hended, rfl, ⟨_, rfl⟩, hW, hframe⟩
  jvm_step X.here [X.here.top, hx, hb, hdg, hmeth', hr, ret, narrow_b1]
  (try refine ⟨rfl, ?_⟩); (try refine ⟨rfl, ?_⟩)
  first | (intro acts; rw [hret _ acts rfl rfl rfl]) | rw [hret _ _ rfl rfl rfl]
  exact Steps.refl _
/-- what holds at the law's entry: the machine, the code, the tables' words (any of lw_tbl by 'hts w (by decide +kernel)'), the script of L ints xs at the cell b, what the Statement gives of the start (any of its parts by flat_of_before) -/
def lw_At (p : Program) (s : State) (m : MethodId) (meth : Method) (c : Code) (b L : Nat) (xs : Nat → Int32) : Prop :=
  p.tables.exec = Jvm.exec ∧ c.code = code ∧ meth.sig.returnType = ret ∧ c.maxLocals = 4 ∧ s.vm.findClass R_law = some m.cls ∧ (∀ w ∈ lw_tbl, w.before #[Value.ref b] s = true) ∧ va_X b L xs s s.heap ∧ b < s.heap.size ∧ meth.locks = false ∧ (Jvm.Cond.and given_1 narrow_1).before #[Value.ref b] s = true
end
section
/-! THE LAW's WORLD: an object of each class, side by side -/
def gL (D : va_G) (dA : Nat → ClassId) (o : Nat) (q : Nat → Nat) (dB : Nat → ClassId) (o2 : Nat) (q2 : Nat → Nat) (A : Nat → Prop) (H0 : Heap) (σ τ : CS) (H : Heap) (locs : List Loc) : Prop := va_P D vwCl (wX0 dA o q σ ++ wX1 dB o2 q2 τ) H ∧ va_D A (wX0 dA o q σ ++ wX1 dB o2 q2 τ) ∧ va_S A H0 H locs
theorem gP_swap {D : va_G} {w1 w2 : va_W} {H : Heap} (h : va_P D vwCl (w1 ++ w2) H) : va_P D vwCl (w2 ++ w1) H := va_P.app (gP_right h) (gP_left h)
section LAW
variable {p : Program} {l : Launch} {e : Env} {R : Room} {s : State} {m : MethodId} {args : Array Value} {below : List Frame} {meth : Method} {c : Code} {H : Heap} {locs : List Loc} {cells slots : Nat} {Q : State → Prop}
variable {cc : ByteArray} {nL : Nat} {own : String} {D : va_G} {dA dB : Nat → ClassId} {o o2 : Nat} {q q2 : Nat → Nat} {A : Nat → Prop} {H0 : Heap} {σ τ : CS} {y : MethodName} {bytes : ByteArray} {maxL index n : Nat} {ret : Option FieldType} {rm : Room} {As rest st0 : List Value} {pc : Nat} {ls : Array Slot}
theorem gL0I (S : CallFix p m c cc nL s args lw_all own) (hK : va_K D vwCl (tX0 dA) s) (Z : gL D dA o q dB o2 q2 A H0 σ τ H locs) (hA : ∀ q, H0.size ≤ q → A q) {post : Int32 → CS → Prop} (hM : gMi l D (wX0 dA o q) (tX0 dA) y bytes maxL ret rm (.ref o :: As) σ post) (cw : CallW R s args own RX0 index y bytes maxL ret (ws_ y bytes maxL ret) rm 0 0 n) (hn : As.length = n) (hsize : ls.size = nL) (hst : st0 = As.reverse ++ .ref o :: rest) (hW : (rest.map fun v => v.category).sum ≤ 8) (hdg : decode cc pc = .ok (.invokevirtual index, 3)) (hf : cells ≤ R.cells ∧ slots ≤ R.slots)
    (kk : ∀ (r : Int32) (σ' : CS) (H' : Heap) (locs' : List Loc), post r σ' → gL D dA o q dB o2 q2 A H0 σ' τ H' locs' → W p l e R s m args below meth c H' locs' cells slots Q (F0 m (pc + 3) ls (.int r :: rest))) : W p l e R s m args below meth c H locs cells slots Q (F0 m pc ls st0) :=
  gCallIF (ci := 0) (wr := wX1 dB o2 q2 τ) S hK (wX0_g dA o q) Z.1 Z.2.1 Z.2.2 hA hM cw hn rfl rfl rfl hsize hst hW hdg hf (fun r σ' H' locs' h1 h2 h3 h4 => kk r σ' H' locs' h1 ⟨h2, h3, h4⟩)
theorem gL0V (S : CallFix p m c cc nL s args lw_all own) (hK : va_K D vwCl (tX0 dA) s) (Z : gL D dA o q dB o2 q2 A H0 σ τ H locs) (hA : ∀ q, H0.size ≤ q → A q) {post : CS → Prop} (hM : gMv l D (wX0 dA o q) (tX0 dA) y bytes maxL ret rm (.ref o :: As) σ post) (cw : CallW R s args own RX0 index y bytes maxL ret (ws_ y bytes maxL ret) rm 0 0 n) (hn : As.length = n) (hsize : ls.size = nL) (hst : st0 = As.reverse ++ .ref o :: rest) (hW : (rest.map fun v => v.category).sum ≤ 8) (hdg : decode cc pc = .ok (.invokevirtual index, 3)) (hf : cells ≤ R.cells ∧ slots ≤ R.slots)
    (kk : ∀ (σ' : CS) (H' : Heap) (locs' : List Loc), post σ' → gL D dA o q dB o2 q2 A H0 σ' τ H' locs' → W p l e R s m args below meth c H' locs' cells slots Q (F0 m (pc + 3) ls rest)) : W p l e R s m args below meth c H locs cells slots Q (F0 m pc ls st0) :=
  gCallVF (ci := 0) (wr := wX1 dB o2 q2 τ) S hK (wX0_g dA o q) Z.1 Z.2.1 Z.2.2 hA hM cw hn rfl rfl rfl hsize hst hW hdg hf (fun σ' H' locs' h1 h2 h3 h4 => kk σ' H' locs' h1 ⟨h2, h3, h4⟩)
theorem gL1I (S : CallFix p m c cc nL s args lw_all own) (hK : va_K D vwCl (tX1 dB) s) (Z : gL D dA o q dB o2 q2 A H0 σ τ H locs) (hA : ∀ q, H0.size ≤ q → A q) {post : Int32 → CS → Prop} (hM : gMi l D (wX1 dB o2 q2) (tX1 dB) y bytes maxL ret rm (.ref o2 :: As) τ post) (cw : CallW R s args own RX1 index y bytes maxL ret (ws_ y bytes maxL ret) rm 0 0 n) (hn : As.length = n) (hsize : ls.size = nL) (hst : st0 = As.reverse ++ .ref o2 :: rest) (hW : (rest.map fun v => v.category).sum ≤ 8) (hdg : decode cc pc = .ok (.invokevirtual index, 3)) (hf : cells ≤ R.cells ∧ slots ≤ R.slots)
    (kk : ∀ (r : Int32) (τ' : CS) (H' : Heap) (locs' : List Loc), post r τ' → gL D dA o q dB o2 q2 A H0 σ τ' H' locs' → W p l e R s m args below meth c H' locs' cells slots Q (F0 m (pc + 3) ls (.int r :: rest))) : W p l e R s m args below meth c H locs cells slots Q (F0 m pc ls st0) :=
  gCallIF (ci := 1) (wr := wX0 dA o q σ) S hK (wX1_g dB o2 q2) (gP_swap Z.1) (gD_swap Z.2.1) Z.2.2 hA hM cw hn rfl rfl rfl hsize hst hW hdg hf (fun r τ' H' locs' h1 h2 h3 h4 => kk r τ' H' locs' h1 ⟨gP_swap h2, gD_swap h3, h4⟩)
theorem gL1V (S : CallFix p m c cc nL s args lw_all own) (hK : va_K D vwCl (tX1 dB) s) (Z : gL D dA o q dB o2 q2 A H0 σ τ H locs) (hA : ∀ q, H0.size ≤ q → A q) {post : CS → Prop} (hM : gMv l D (wX1 dB o2 q2) (tX1 dB) y bytes maxL ret rm (.ref o2 :: As) τ post) (cw : CallW R s args own RX1 index y bytes maxL ret (ws_ y bytes maxL ret) rm 0 0 n) (hn : As.length = n) (hsize : ls.size = nL) (hst : st0 = As.reverse ++ .ref o2 :: rest) (hW : (rest.map fun v => v.category).sum ≤ 8) (hdg : decode cc pc = .ok (.invokevirtual index, 3)) (hf : cells ≤ R.cells ∧ slots ≤ R.slots)
    (kk : ∀ (τ' : CS) (H' : Heap) (locs' : List Loc), post τ' → gL D dA o q dB o2 q2 A H0 σ τ' H' locs' → W p l e R s m args below meth c H' locs' cells slots Q (F0 m (pc + 3) ls rest)) : W p l e R s m args below meth c H locs cells slots Q (F0 m pc ls st0) :=
  gCallVF (ci := 1) (wr := wX0 dA o q σ) S hK (wX1_g dB o2 q2) (gP_swap Z.1) (gD_swap Z.2.1) Z.2.2 hA hM cw hn rfl rfl rfl hsize hst hW hdg hf (fun τ' H' locs' h1 h2 h3 h4 => kk τ' H' locs' h1 ⟨gP_swap h2, gD_swap h3, h4⟩)
end LAW
theorem law_len {L k : Nat} (hL : L ≤ 1536) (hk : 3 * k ≤ L) (h : ¬ Int32.ofNat L - 3 < nI (3 * k)) : 3 * k + 3 ≤ L := by
  rw [Int32.lt_iff_toInt_lt, nI_toInt (by omega)] at h
  have := pk_sub_toInt (a := L) (b := 3) (by omega) (by omega)
  rw [show Int32.ofNat L - 3 = nI L - nI 3 from rfl, this] at h
  omega
theorem ipile_at {f : Nat → Int32} {j : Nat} (h : j < 60) : ipile 60 f j = 59 - nI j := by simp [ipile, h]
theorem zst_at {f : Nat → Int32} {j : Nat} (h : j < 60) : zst 60 f j = 0 := by simp [zst, h]
theorem Am_nhp {α τ : CS} (h : Am α τ) : Am (nhp1 α) (nhp1 τ) := by
  unfold nhp1
  rw [h 7 (by decide), h 8 (by decide)]
  exact Am_upd (Am_upd h 7 _) 8 _
/-- after init on both sides -/
theorem J_again {α σ τ σ' τ' : CS} {B : Nat} (hJ : Jv α σ B) (ham : Am α τ) (hp : σ' 12 = ipile 60 (σ 12) ∧ σ' 4 = zst 60 (σ 4) ∧ σ' 15 0 = 60 ∧ σ' 16 0 = 0 ∧ σ' 17 0 = 0 ∧ Ex [4, 12, 15, 16, 17] σ σ') (hq : τ' 5 = ipile 60 (τ 5) ∧ τ' 4 = zst 60 (τ 4) ∧ τ' 6 = (fun _ => 60) ∧ τ' 8 = (fun _ => 0) ∧ Ex [4, 5, 6, 8] τ τ') : Jv τ' σ' 0 := by
  obtain ⟨hac, nh, cs, fl, hv, ho⟩ := hJ
  obtain ⟨p1, p2, p3, p4, p5, p6⟩ := hp
  obtain ⟨q1, q2, q3, q4, q5⟩ := hq
  obtain ⟨a0, a1, a2, a3, a4, a5, a6, a7, a8⟩ := hac
  have b1 := hv.2.2.1
  have b2 := hv.2.2.2.1
  refine J_init ?_ (fun j hj => by rw [q1]; exact ipile_at hj) (fun j hj => by rw [q2]; exact zst_at hj) (fun j hj => by rw [p2]; exact zst_at hj) ?_ ?_ ?_ ?_ ?_ p3 p4 p5 (by rw [q3]) (by rw [q4]) ?_ ?_
  · rw [p1, q1, a5, ham 5 (by decide)]
  · rw [p6 0 (by decide), q5 0 (by decide), a0, ham 0 (by decide)]
  · rw [p6 1 (by decide), q5 1 (by decide), a1, ham 1 (by decide)]
  · rw [p6 2 (by decide), q5 2 (by decide), a2, ham 2 (by decide)]
  · rw [p6 3 (by decide), q5 3 (by decide), a3, ham 3 (by decide)]
  · rw [p6 6 (by decide), q5 7 (by decide), a7, ham 7 (by decide)]
  · rw [q5 1 (by decide), ham 1 (by decide)]; exact b1
  · rw [q5 2 (by decide), ham 2 (by decide)]; exact b2
end
section
set_option maxHeartbeats 4000000 in
set_option maxRecDepth 100000 in
theorem law_c0 {p : Program} {e : Env} {s : State} {m : MethodId} {below : List Frame} {meth : Method} {c : Code} (l : Launch) {b L : Nat} {xs : Nat → Int32} {D : va_G} {dA dB : Nat → ClassId} {o o2 : Nat} {q q2 : Nat → Nat} (C0 : lw_At p s m meth c b L xs) (hK0 : va_K D vwCl (tX0 dA) s) (hK1 : va_K D vwCl (tX1 dB) s) (k : Nat) (hk : 3 * k + 3 ≤ L) (hL : L ≤ 1536) (α σ τ : CS) (H : Heap) (locs : List Loc) (ls : Array Slot) (hJ : Jv α σ k) (ham : Am α τ) (Z : gL D dA o q dB o2 q2 (fun q : Nat => s.heap.size ≤ q) s.heap σ τ H locs) (hl : lv_has ls 4 [(0, .ref b), (1, .ref o), (2, .ref o2), (3, .int (nI (3 * k)))]) (kk : ∀ (α σ τ : CS) (H : Heap) (locs : List Loc), Jv α σ (k + 1) → Am α τ → gL D dA o q dB o2 q2 (fun q : Nat => s.heap.size ≤ q) s.heap σ τ H locs → W p l e room_1 s m #[Value.ref b] below meth c H locs 27 3563 (lw_Z below #[Value.ref b] s) (F0 m 370 ls [])) : W p l e room_1 s m #[Value.ref b] below meth c H locs 27 3563 (lw_Z below #[Value.ref b] s) (F0 m 96 ls []) := by
  obtain ⟨hx, hb, hr, hml, hown, hts0, hX, hbl, hlocks, hgv⟩ := C0
  have hts : ∀ w ∈ lw_all, w.before #[Value.ref b] s = true := fun w h => hts0 w (lw_all_tbl h)
  have hA : ∀ q : Nat, s.heap.size ≤ q → (fun q : Nat => s.heap.size ≤ q) q := fun _ h => h
  have hbA : ¬ (fun q : Nat => s.heap.size ≤ q) b := Nat.not_le.mpr hbl
  have hi1 : vp_in ((nI (3 * k)) + 1) L := by rw [nI_1]; exact vp_in_nI (by omega) (by omega)
  have hi2 : vp_in ((nI (3 * k)) + 2) L := by rw [nI_2]; exact vp_in_nI (by omega) (by omega)
  have hB : k < 1100 := by omega
  refine lv_aload_n hx hb dL_law_96 rfl (lv_at hl 1 rfl) ?_
  refine gL0V (As := []) (rest := []) ⟨hx, hb, hml, hown, hts⟩ hK0 Z hA (c0_init2 l D dA o q σ) (cwV 0 hts (lw_V q96 q36 q37 q25 q38) rfl rfl rfl (by decide +kernel) ⟨Nat.le_of_ble_eq_true rfl, Nat.le_of_ble_eq_true rfl⟩) rfl hl.1 rfl (Nat.le_of_ble_eq_true rfl) dL_law_97 ⟨Nat.le_of_ble_eq_true rfl, Nat.le_of_ble_eq_true rfl⟩ (fun σ' H locs h0 Z => ?_)
  refine lv_aload_n hx hb dL_law_100 rfl (lv_at hl 2 rfl) ?_
  refine gL1V (As := []) (rest := []) ⟨hx, hb, hml, hown, hts⟩ hK1 Z hA (c1_init2 l D dB o2 q2 τ) (cwV 0 hts (lw_V q240 q197 q198 q26 q199) rfl rfl rfl (by decide +kernel) ⟨Nat.le_of_ble_eq_true rfl, Nat.le_of_ble_eq_true rfl⟩) rfl hl.1 rfl (Nat.le_of_ble_eq_true rfl) dL_law_101 ⟨Nat.le_of_ble_eq_true rfl, Nat.le_of_ble_eq_true rfl⟩ (fun τ' H locs h1 Z => ?_)
  refine lv_goto (tgt := 370) hx hb dL_law_104 (by decide) ?_
  exact kk τ' σ' τ' H locs (Jv_le (J_again hJ ham h0 h1) (Nat.zero_le _)) (fun _ _ => rfl) Z
set_option maxHeartbeats 4000000 in
set_option maxRecDepth 100000 in
theorem law_c1 {p : Program} {e : Env} {s : State} {m : MethodId} {below : List Frame} {meth : Method} {c : Code} (l : Launch) {b L : Nat} {xs : Nat → Int32} {D : va_G} {dA dB : Nat → ClassId} {o o2 : Nat} {q q2 : Nat → Nat} (C0 : lw_At p s m meth c b L xs) (hK0 : va_K D vwCl (tX0 dA) s) (hK1 : va_K D vwCl (tX1 dB) s) (k : Nat) (hk : 3 * k + 3 ≤ L) (hL : L ≤ 1536) (α σ τ : CS) (H : Heap) (locs : List Loc) (ls : Array Slot) (hJ : Jv α σ k) (ham : Am α τ) (Z : gL D dA o q dB o2 q2 (fun q : Nat => s.heap.size ≤ q) s.heap σ τ H locs) (hl : lv_has ls 4 [(0, .ref b), (1, .ref o), (2, .ref o2), (3, .int (nI (3 * k)))]) (kk : ∀ (α σ τ : CS) (H : Heap) (locs : List Loc), Jv α σ (k + 1) → Am α τ → gL D dA o q dB o2 q2 (fun q : Nat => s.heap.size ≤ q) s.heap σ τ H locs → W p l e room_1 s m #[Value.ref b] below meth c H locs 27 3563 (lw_Z below #[Value.ref b] s) (F0 m 370 ls [])) : W p l e room_1 s m #[Value.ref b] below meth c H locs 27 3563 (lw_Z below #[Value.ref b] s) (F0 m 107 ls []) := by
  obtain ⟨hx, hb, hr, hml, hown, hts0, hX, hbl, hlocks, hgv⟩ := C0
  have hts : ∀ w ∈ lw_all, w.before #[Value.ref b] s = true := fun w h => hts0 w (lw_all_tbl h)
  have hA : ∀ q : Nat, s.heap.size ≤ q → (fun q : Nat => s.heap.size ≤ q) q := fun _ h => h
  have hbA : ¬ (fun q : Nat => s.heap.size ≤ q) b := Nat.not_le.mpr hbl
  have hi1 : vp_in ((nI (3 * k)) + 1) L := by rw [nI_1]; exact vp_in_nI (by omega) (by omega)
  have hi2 : vp_in ((nI (3 * k)) + 2) L := by rw [nI_2]; exact vp_in_nI (by omega) (by omega)
  have hB : k < 1100 := by omega
  refine lv_aload_n hx hb dL_law_107 rfl (lv_at hl 1 rfl) ?_
  obtain ⟨g1, g2⟩ := J_new hJ hB
  have a16 : σ 16 0 = α 8 0 := hJ.1.2.2.2.2.2.2.2.2
  have a8 : τ 8 0 = α 8 0 := by rw [ham 8 (by decide)]
  refine gL0I (As := []) (rest := []) ⟨hx, hb, hml, hown, hts⟩ hK0 Z hA (c0_newHeap l D dA o q σ (by rw [a16]; exact g1) (J_tok hJ hB)) (cwV 0 hts (lw_V q97 q98 q99 q25 q100) rfl rfl rfl (by decide +kernel) ⟨Nat.le_of_ble_eq_true rfl, Nat.le_of_ble_eq_true rfl⟩) rfl hl.1 rfl (Nat.le_of_ble_eq_true rfl) dL_law_108 ⟨Nat.le_of_ble_eq_true rfl, Nat.le_of_ble_eq_true rfl⟩ (fun r0 σ' H locs h0 Z => ?_)
  refine lv_aload_n hx hb dL_law_111 rfl (lv_at hl 2 rfl) ?_
  refine gL1I (As := []) (rest := [.int r0]) ⟨hx, hb, hml, hown, hts⟩ hK1 Z hA (c1_newHeap l D dB o2 q2 τ (by rw [a8]; exact g1)) (cwV 0 hts (lw_V q241 q242 q243 q26 q244) rfl rfl rfl (by decide +kernel) ⟨Nat.le_of_ble_eq_true rfl, Nat.le_of_ble_eq_true rfl⟩) rfl hl.1 rfl (Nat.le_of_ble_eq_true rfl) dL_law_112 ⟨Nat.le_of_ble_eq_true rfl, Nat.le_of_ble_eq_true rfl⟩ (fun r1 τ' H locs h1 Z => ?_)
  have fin : r0 = r1 ∧ ∃ α', Jv α' σ' (k + 1) ∧ Am α' τ' := by
    rcases h0 with ⟨x1, x2, x3⟩ | ⟨x1, x2, x3⟩ <;> rcases h1 with ⟨y1, y2, y3⟩ | ⟨y1, y2, y3⟩
    · rw [x2, y2, x3, y3]; exact ⟨rfl, α, Jv_le hJ (Nat.le_succ _), ham⟩
    · exact absurd (a8.trans (a16.symm.trans x1)) y1
    · exact absurd (a16.trans (a8.symm.trans y1)) x1
    · rw [x2, y2, x3, y3]; exact ⟨a16.trans a8.symm, nhp1 α, g2 (by rw [← a16]; exact x1), Am_nhp ham⟩
  obtain ⟨e9, α', j9, m9⟩ := fin
  refine lv_icmp_eq (tgt := 370) hx hb dL_law_115 (by decide) (fun c9 => ?_) (fun c9 => ?_)
  · skip
    exact kk α' σ' τ' H locs j9 m9 Z
  · exact absurd (e9) c9
set_option maxHeartbeats 4000000 in
set_option maxRecDepth 100000 in
theorem law_c2 {p : Program} {e : Env} {s : State} {m : MethodId} {below : List Frame} {meth : Method} {c : Code} (l : Launch) {b L : Nat} {xs : Nat → Int32} {D : va_G} {dA dB : Nat → ClassId} {o o2 : Nat} {q q2 : Nat → Nat} (C0 : lw_At p s m meth c b L xs) (hK0 : va_K D vwCl (tX0 dA) s) (hK1 : va_K D vwCl (tX1 dB) s) (k : Nat) (hk : 3 * k + 3 ≤ L) (hL : L ≤ 1536) (α σ τ : CS) (H : Heap) (locs : List Loc) (ls : Array Slot) (hJ : Jv α σ k) (ham : Am α τ) (Z : gL D dA o q dB o2 q2 (fun q : Nat => s.heap.size ≤ q) s.heap σ τ H locs) (hl : lv_has ls 4 [(0, .ref b), (1, .ref o), (2, .ref o2), (3, .int (nI (3 * k)))]) (kk : ∀ (α σ τ : CS) (H : Heap) (locs : List Loc), Jv α σ (k + 1) → Am α τ → gL D dA o q dB o2 q2 (fun q : Nat => s.heap.size ≤ q) s.heap σ τ H locs → W p l e room_1 s m #[Value.ref b] below meth c H locs 27 3563 (lw_Z below #[Value.ref b] s) (F0 m 370 ls [])) : W p l e room_1 s m #[Value.ref b] below meth c H locs 27 3563 (lw_Z below #[Value.ref b] s) (F0 m 120 ls []) := by
  obtain ⟨hx, hb, hr, hml, hown, hts0, hX, hbl, hlocks, hgv⟩ := C0
  have hts : ∀ w ∈ lw_all, w.before #[Value.ref b] s = true := fun w h => hts0 w (lw_all_tbl h)
  have hA : ∀ q : Nat, s.heap.size ≤ q → (fun q : Nat => s.heap.size ≤ q) q := fun _ h => h
  have hbA : ¬ (fun q : Nat => s.heap.size ≤ q) b := Nat.not_le.mpr hbl
  have hi1 : vp_in ((nI (3 * k)) + 1) L := by rw [nI_1]; exact vp_in_nI (by omega) (by omega)
  have hi2 : vp_in ((nI (3 * k)) + 2) L := by rw [nI_2]; exact vp_in_nI (by omega) (by omega)
  have hB : k < 1100 := by omega
  refine lv_aload_n hx hb dL_law_120 rfl (lv_at hl 1 rfl) ?_
  refine lv_aload_n hx hb dL_law_121 rfl (lv_at hl 0 rfl) ?_
  refine lv_iload_n hx hb dL_law_122 rfl (lv_at hl 3 rfl) ?_
  refine lv_iconst (v := 1) hx hb dL_law_123 (by decide) ?_
  refine lv_iadd hx hb dL_law_124 ?_
  refine va_sld hx hb hX hbl hbA Z.2.2 hi1 dL_law_125 ?_
  refine lv_topi (fun v1 e_v1 => ?_)
  refine lv_aload_n hx hb dL_law_126 rfl (lv_at hl 0 rfl) ?_
  refine lv_iload_n hx hb dL_law_127 rfl (lv_at hl 3 rfl) ?_
  refine lv_iconst (v := 2) hx hb dL_law_128 (by decide) ?_
  refine lv_iadd hx hb dL_law_129 ?_
  refine va_sld hx hb hX hbl hbA Z.2.2 hi2 dL_law_130 ?_
  refine lv_topi (fun v2 e_v2 => ?_)
  obtain ⟨r, α', g1, g2⟩ := J_insert hJ v1 v2
  obtain ⟨nh, e8, hnh⟩ := J_nh hJ
  refine gL0I (As := [.int v1, .int v2]) (rest := []) ⟨hx, hb, hml, hown, hts⟩ hK0 Z hA (c0_insert l D dA o q σ α v1 v2 r α' hJ.1 g1) (cwV 2 hts (lw_V q105 q106 q107 q25 q108) rfl rfl rfl (by decide +kernel) ⟨Nat.le_of_ble_eq_true rfl, Nat.le_of_ble_eq_true rfl⟩) rfl hl.1 rfl (Nat.le_of_ble_eq_true rfl) dL_law_131 ⟨Nat.le_of_ble_eq_true rfl, Nat.le_of_ble_eq_true rfl⟩ (fun r0 σ' H locs h0 Z => ?_)
  refine lv_aload_n hx hb dL_law_134 rfl (lv_at hl 2 rfl) ?_
  refine lv_aload_n hx hb dL_law_135 rfl (lv_at hl 0 rfl) ?_
  refine lv_iload_n hx hb dL_law_136 rfl (lv_at hl 3 rfl) ?_
  refine lv_iconst (v := 1) hx hb dL_law_137 (by decide) ?_
  refine lv_iadd hx hb dL_law_138 ?_
  refine va_sld hx hb hX hbl hbA Z.2.2 hi1 dL_law_139 ?_
  refine lv_topi (fun u1 e_u1 => ?_)
  have e9 : v1 = u1 := e_v1.trans e_u1.symm
  subst e9
  refine lv_aload_n hx hb dL_law_140 rfl (lv_at hl 0 rfl) ?_
  refine lv_iload_n hx hb dL_law_141 rfl (lv_at hl 3 rfl) ?_
  refine lv_iconst (v := 2) hx hb dL_law_142 (by decide) ?_
  refine lv_iadd hx hb dL_law_143 ?_
  refine va_sld hx hb hX hbl hbA Z.2.2 hi2 dL_law_144 ?_
  refine lv_topi (fun u2 e_u2 => ?_)
  have e9 : v2 = u2 := e_v2.trans e_u2.symm
  subst e9
  refine gL1I (As := [.int v1, .int v2]) (rest := [.int r0]) ⟨hx, hb, hml, hown, hts⟩ hK1 Z hA (c1_insert l D dB o2 q2 τ α v1 v2 r α' nh e8 hnh ham g1) (cwV 2 hts (lw_V q245 q246 q247 q26 q248) rfl rfl rfl (by decide +kernel) ⟨Nat.le_of_ble_eq_true rfl, Nat.le_of_ble_eq_true rfl⟩) rfl hl.1 rfl (Nat.le_of_ble_eq_true rfl) dL_law_145 ⟨Nat.le_of_ble_eq_true rfl, Nat.le_of_ble_eq_true rfl⟩ (fun r1 τ' H locs h1 Z => ?_)
  refine lv_icmp_eq (tgt := 370) hx hb dL_law_148 (by decide) (fun c9 => ?_) (fun c9 => ?_)
  · skip
    exact kk α' σ' τ' H locs (Jv_le (g2 σ' h0.2.1 h0.2.2) (Nat.le_succ _)) h1.2 Z
  · exact absurd (h0.1.trans h1.1.symm) c9
set_option maxHeartbeats 4000000 in
set_option maxRecDepth 100000 in
theorem law_c3 {p : Program} {e : Env} {s : State} {m : MethodId} {below : List Frame} {meth : Method} {c : Code} (l : Launch) {b L : Nat} {xs : Nat → Int32} {D : va_G} {dA dB : Nat → ClassId} {o o2 : Nat} {q q2 : Nat → Nat} (C0 : lw_At p s m meth c b L xs) (hK0 : va_K D vwCl (tX0 dA) s) (hK1 : va_K D vwCl (tX1 dB) s) (k : Nat) (hk : 3 * k + 3 ≤ L) (hL : L ≤ 1536) (α σ τ : CS) (H : Heap) (locs : List Loc) (ls : Array Slot) (hJ : Jv α σ k) (ham : Am α τ) (Z : gL D dA o q dB o2 q2 (fun q : Nat => s.heap.size ≤ q) s.heap σ τ H locs) (hl : lv_has ls 4 [(0, .ref b), (1, .ref o), (2, .ref o2), (3, .int (nI (3 * k)))]) (kk : ∀ (α σ τ : CS) (H : Heap) (locs : List Loc), Jv α σ (k + 1) → Am α τ → gL D dA o q dB o2 q2 (fun q : Nat => s.heap.size ≤ q) s.heap σ τ H locs → W p l e room_1 s m #[Value.ref b] below meth c H locs 27 3563 (lw_Z below #[Value.ref b] s) (F0 m 370 ls [])) : W p l e room_1 s m #[Value.ref b] below meth c H locs 27 3563 (lw_Z below #[Value.ref b] s) (F0 m 153 ls []) := by
  obtain ⟨hx, hb, hr, hml, hown, hts0, hX, hbl, hlocks, hgv⟩ := C0
  have hts : ∀ w ∈ lw_all, w.before #[Value.ref b] s = true := fun w h => hts0 w (lw_all_tbl h)
  have hA : ∀ q : Nat, s.heap.size ≤ q → (fun q : Nat => s.heap.size ≤ q) q := fun _ h => h
  have hbA : ¬ (fun q : Nat => s.heap.size ≤ q) b := Nat.not_le.mpr hbl
  have hi1 : vp_in ((nI (3 * k)) + 1) L := by rw [nI_1]; exact vp_in_nI (by omega) (by omega)
  have hi2 : vp_in ((nI (3 * k)) + 2) L := by rw [nI_2]; exact vp_in_nI (by omega) (by omega)
  have hB : k < 1100 := by omega
  refine lv_aload_n hx hb dL_law_153 rfl (lv_at hl 1 rfl) ?_
  refine lv_aload_n hx hb dL_law_154 rfl (lv_at hl 0 rfl) ?_
  refine lv_iload_n hx hb dL_law_155 rfl (lv_at hl 3 rfl) ?_
  refine lv_iconst (v := 1) hx hb dL_law_156 (by decide) ?_
  refine lv_iadd hx hb dL_law_157 ?_
  refine va_sld hx hb hX hbl hbA Z.2.2 hi1 dL_law_158 ?_
  refine lv_topi (fun v1 e_v1 => ?_)
  obtain ⟨ld, t9, g1, g2⟩ := J_delete hJ (by omega) v1
  refine gL0I (As := [.int v1]) (rest := []) ⟨hx, hb, hml, hown, hts⟩ hK0 Z hA (c0_delete l D dA o q σ α v1 ld t9 hJ.1 g1) (cwV 1 hts (lw_V q141 q142 q143 q25 q144) rfl rfl rfl (by decide +kernel) ⟨Nat.le_of_ble_eq_true rfl, Nat.le_of_ble_eq_true rfl⟩) rfl hl.1 rfl (Nat.le_of_ble_eq_true rfl) dL_law_159 ⟨Nat.le_of_ble_eq_true rfl, Nat.le_of_ble_eq_true rfl⟩ (fun r0 σ' H locs h0 Z => ?_)
  refine lv_aload_n hx hb dL_law_162 rfl (lv_at hl 2 rfl) ?_
  refine lv_aload_n hx hb dL_law_163 rfl (lv_at hl 0 rfl) ?_
  refine lv_iload_n hx hb dL_law_164 rfl (lv_at hl 3 rfl) ?_
  refine lv_iconst (v := 1) hx hb dL_law_165 (by decide) ?_
  refine lv_iadd hx hb dL_law_166 ?_
  refine va_sld hx hb hX hbl hbA Z.2.2 hi1 dL_law_167 ?_
  refine lv_topi (fun u1 e_u1 => ?_)
  have e9 : v1 = u1 := e_v1.trans e_u1.symm
  subst e9
  refine gL1I (As := [.int v1]) (rest := [.int r0]) ⟨hx, hb, hml, hown, hts⟩ hK1 Z hA (c1_delete l D dB o2 q2 τ α v1 ham) (cwV 1 hts (lw_V q292 q293 q294 q26 q295) rfl rfl rfl (by decide +kernel) ⟨Nat.le_of_ble_eq_true rfl, Nat.le_of_ble_eq_true rfl⟩) rfl hl.1 rfl (Nat.le_of_ble_eq_true rfl) dL_law_168 ⟨Nat.le_of_ble_eq_true rfl, Nat.le_of_ble_eq_true rfl⟩ (fun r1 τ' H locs h1 Z => ?_)
  have fin : r0 = r1 ∧ ∃ α', Jv α' σ' (k + 1) ∧ Am α' τ' := by
    rcases h0 with ⟨x1, x2, x3, x4⟩ | ⟨x1, x2, x3⟩ <;> rcases h1 with ⟨y1, y2, y3⟩ | ⟨y1, y2, y3⟩
    · exact ⟨x2.trans y2.symm, _, Jv_le (g2 x1 σ' x3 x4) (Nat.le_succ _), y3⟩
    · exact absurd x1 y1
    · exact absurd y1 x1
    · rw [x3, y3]; exact ⟨x2.trans y2.symm, α, Jv_le hJ (Nat.le_succ _), ham⟩
  obtain ⟨e9, α', j9, m9⟩ := fin
  refine lv_icmp_eq (tgt := 370) hx hb dL_law_171 (by decide) (fun c9 => ?_) (fun c9 => ?_)
  · skip
    exact kk α' σ' τ' H locs j9 m9 Z
  · exact absurd (e9) c9
set_option maxHeartbeats 4000000 in
set_option maxRecDepth 100000 in
theorem law_c4 {p : Program} {e : Env} {s : State} {m : MethodId} {below : List Frame} {meth : Method} {c : Code} (l : Launch) {b L : Nat} {xs : Nat → Int32} {D : va_G} {dA dB : Nat → ClassId} {o o2 : Nat} {q q2 : Nat → Nat} (C0 : lw_At p s m meth c b L xs) (hK0 : va_K D vwCl (tX0 dA) s) (hK1 : va_K D vwCl (tX1 dB) s) (k : Nat) (hk : 3 * k + 3 ≤ L) (hL : L ≤ 1536) (α σ τ : CS) (H : Heap) (locs : List Loc) (ls : Array Slot) (hJ : Jv α σ k) (ham : Am α τ) (Z : gL D dA o q dB o2 q2 (fun q : Nat => s.heap.size ≤ q) s.heap σ τ H locs) (hl : lv_has ls 4 [(0, .ref b), (1, .ref o), (2, .ref o2), (3, .int (nI (3 * k)))]) (kk : ∀ (α σ τ : CS) (H : Heap) (locs : List Loc), Jv α σ (k + 1) → Am α τ → gL D dA o q dB o2 q2 (fun q : Nat => s.heap.size ≤ q) s.heap σ τ H locs → W p l e room_1 s m #[Value.ref b] below meth c H locs 27 3563 (lw_Z below #[Value.ref b] s) (F0 m 370 ls [])) : W p l e room_1 s m #[Value.ref b] below meth c H locs 27 3563 (lw_Z below #[Value.ref b] s) (F0 m 176 ls []) := by
  obtain ⟨hx, hb, hr, hml, hown, hts0, hX, hbl, hlocks, hgv⟩ := C0
  have hts : ∀ w ∈ lw_all, w.before #[Value.ref b] s = true := fun w h => hts0 w (lw_all_tbl h)
  have hA : ∀ q : Nat, s.heap.size ≤ q → (fun q : Nat => s.heap.size ≤ q) q := fun _ h => h
  have hbA : ¬ (fun q : Nat => s.heap.size ≤ q) b := Nat.not_le.mpr hbl
  have hi1 : vp_in ((nI (3 * k)) + 1) L := by rw [nI_1]; exact vp_in_nI (by omega) (by omega)
  have hi2 : vp_in ((nI (3 * k)) + 2) L := by rw [nI_2]; exact vp_in_nI (by omega) (by omega)
  have hB : k < 1100 := by omega
  refine lv_aload_n hx hb dL_law_176 rfl (lv_at hl 1 rfl) ?_
  refine lv_aload_n hx hb dL_law_177 rfl (lv_at hl 0 rfl) ?_
  refine lv_iload_n hx hb dL_law_178 rfl (lv_at hl 3 rfl) ?_
  refine lv_iconst (v := 1) hx hb dL_law_179 (by decide) ?_
  refine lv_iadd hx hb dL_law_180 ?_
  refine va_sld hx hb hX hbl hbA Z.2.2 hi1 dL_law_181 ?_
  refine lv_topi (fun v1 e_v1 => ?_)
  obtain ⟨r, α', g1, g2⟩ := J_find hJ v1
  obtain ⟨nh, e8, hnh⟩ := J_nh hJ
  refine gL0I (As := [.int v1]) (rest := []) ⟨hx, hb, hml, hown, hts⟩ hK0 Z hA (c0_findMin l D dA o q σ α v1 r α' hJ.1 g1) (cwV 1 hts (lw_V q153 q154 q155 q25 q156) rfl rfl rfl (by decide +kernel) ⟨Nat.le_of_ble_eq_true rfl, Nat.le_of_ble_eq_true rfl⟩) rfl hl.1 rfl (Nat.le_of_ble_eq_true rfl) dL_law_182 ⟨Nat.le_of_ble_eq_true rfl, Nat.le_of_ble_eq_true rfl⟩ (fun r0 σ' H locs h0 Z => ?_)
  refine lv_aload_n hx hb dL_law_185 rfl (lv_at hl 2 rfl) ?_
  refine lv_aload_n hx hb dL_law_186 rfl (lv_at hl 0 rfl) ?_
  refine lv_iload_n hx hb dL_law_187 rfl (lv_at hl 3 rfl) ?_
  refine lv_iconst (v := 1) hx hb dL_law_188 (by decide) ?_
  refine lv_iadd hx hb dL_law_189 ?_
  refine va_sld hx hb hX hbl hbA Z.2.2 hi1 dL_law_190 ?_
  refine lv_topi (fun u1 e_u1 => ?_)
  have e9 : v1 = u1 := e_v1.trans e_u1.symm
  subst e9
  refine gL1I (As := [.int v1]) (rest := [.int r0]) ⟨hx, hb, hml, hown, hts⟩ hK1 Z hA (c1_findMin l D dB o2 q2 τ α v1 r α' nh e8 hnh ham g1) (cwV 1 hts (lw_V q296 q297 q298 q26 q299) rfl rfl rfl (by decide +kernel) ⟨Nat.le_of_ble_eq_true rfl, Nat.le_of_ble_eq_true rfl⟩) rfl hl.1 rfl (Nat.le_of_ble_eq_true rfl) dL_law_191 ⟨Nat.le_of_ble_eq_true rfl, Nat.le_of_ble_eq_true rfl⟩ (fun r1 τ' H locs h1 Z => ?_)
  refine lv_icmp_eq (tgt := 370) hx hb dL_law_194 (by decide) (fun c9 => ?_) (fun c9 => ?_)
  · skip
    exact kk α' σ' τ' H locs (Jv_le (g2 σ' h0.2.1 h0.2.2) (Nat.le_succ _)) h1.2 Z
  · exact absurd (h0.1.trans h1.1.symm) c9
set_option maxHeartbeats 4000000 in
set_option maxRecDepth 100000 in
theorem law_c5 {p : Program} {e : Env} {s : State} {m : MethodId} {below : List Frame} {meth : Method} {c : Code} (l : Launch) {b L : Nat} {xs : Nat → Int32} {D : va_G} {dA dB : Nat → ClassId} {o o2 : Nat} {q q2 : Nat → Nat} (C0 : lw_At p s m meth c b L xs) (hK0 : va_K D vwCl (tX0 dA) s) (hK1 : va_K D vwCl (tX1 dB) s) (k : Nat) (hk : 3 * k + 3 ≤ L) (hL : L ≤ 1536) (α σ τ : CS) (H : Heap) (locs : List Loc) (ls : Array Slot) (hJ : Jv α σ k) (ham : Am α τ) (Z : gL D dA o q dB o2 q2 (fun q : Nat => s.heap.size ≤ q) s.heap σ τ H locs) (hl : lv_has ls 4 [(0, .ref b), (1, .ref o), (2, .ref o2), (3, .int (nI (3 * k)))]) (kk : ∀ (α σ τ : CS) (H : Heap) (locs : List Loc), Jv α σ (k + 1) → Am α τ → gL D dA o q dB o2 q2 (fun q : Nat => s.heap.size ≤ q) s.heap σ τ H locs → W p l e room_1 s m #[Value.ref b] below meth c H locs 27 3563 (lw_Z below #[Value.ref b] s) (F0 m 370 ls [])) : W p l e room_1 s m #[Value.ref b] below meth c H locs 27 3563 (lw_Z below #[Value.ref b] s) (F0 m 199 ls []) := by
  obtain ⟨hx, hb, hr, hml, hown, hts0, hX, hbl, hlocks, hgv⟩ := C0
  have hts : ∀ w ∈ lw_all, w.before #[Value.ref b] s = true := fun w h => hts0 w (lw_all_tbl h)
  have hA : ∀ q : Nat, s.heap.size ≤ q → (fun q : Nat => s.heap.size ≤ q) q := fun _ h => h
  have hbA : ¬ (fun q : Nat => s.heap.size ≤ q) b := Nat.not_le.mpr hbl
  have hi1 : vp_in ((nI (3 * k)) + 1) L := by rw [nI_1]; exact vp_in_nI (by omega) (by omega)
  have hi2 : vp_in ((nI (3 * k)) + 2) L := by rw [nI_2]; exact vp_in_nI (by omega) (by omega)
  have hB : k < 1100 := by omega
  refine lv_aload_n hx hb dL_law_199 rfl (lv_at hl 1 rfl) ?_
  refine lv_aload_n hx hb dL_law_200 rfl (lv_at hl 0 rfl) ?_
  refine lv_iload_n hx hb dL_law_201 rfl (lv_at hl 3 rfl) ?_
  refine lv_iconst (v := 1) hx hb dL_law_202 (by decide) ?_
  refine lv_iadd hx hb dL_law_203 ?_
  refine va_sld hx hb hX hbl hbA Z.2.2 hi1 dL_law_204 ?_
  refine lv_topi (fun v1 e_v1 => ?_)
  obtain ⟨r, α', g1, g2⟩ := J_delmin hJ v1
  obtain ⟨nh, e8, hnh⟩ := J_nh hJ
  refine gL0I (As := [.int v1]) (rest := []) ⟨hx, hb, hml, hown, hts⟩ hK0 Z hA (c0_deleteMin l D dA o q σ α v1 r α' hJ.1 g1) (cwV 1 hts (lw_V q161 q162 q163 q25 q164) rfl rfl rfl (by decide +kernel) ⟨Nat.le_of_ble_eq_true rfl, Nat.le_of_ble_eq_true rfl⟩) rfl hl.1 rfl (Nat.le_of_ble_eq_true rfl) dL_law_205 ⟨Nat.le_of_ble_eq_true rfl, Nat.le_of_ble_eq_true rfl⟩ (fun r0 σ' H locs h0 Z => ?_)
  refine lv_aload_n hx hb dL_law_208 rfl (lv_at hl 2 rfl) ?_
  refine lv_aload_n hx hb dL_law_209 rfl (lv_at hl 0 rfl) ?_
  refine lv_iload_n hx hb dL_law_210 rfl (lv_at hl 3 rfl) ?_
  refine lv_iconst (v := 1) hx hb dL_law_211 (by decide) ?_
  refine lv_iadd hx hb dL_law_212 ?_
  refine va_sld hx hb hX hbl hbA Z.2.2 hi1 dL_law_213 ?_
  refine lv_topi (fun u1 e_u1 => ?_)
  have e9 : v1 = u1 := e_v1.trans e_u1.symm
  subst e9
  refine gL1I (As := [.int v1]) (rest := [.int r0]) ⟨hx, hb, hml, hown, hts⟩ hK1 Z hA (c1_deleteMin l D dB o2 q2 τ α v1 r α' nh e8 hnh ham g1) (cwV 1 hts (lw_V q300 q301 q302 q26 q303) rfl rfl rfl (by decide +kernel) ⟨Nat.le_of_ble_eq_true rfl, Nat.le_of_ble_eq_true rfl⟩) rfl hl.1 rfl (Nat.le_of_ble_eq_true rfl) dL_law_214 ⟨Nat.le_of_ble_eq_true rfl, Nat.le_of_ble_eq_true rfl⟩ (fun r1 τ' H locs h1 Z => ?_)
  refine lv_icmp_eq (tgt := 370) hx hb dL_law_217 (by decide) (fun c9 => ?_) (fun c9 => ?_)
  · skip
    exact kk α' σ' τ' H locs (Jv_le (g2 σ' h0.2.1 h0.2.2) (Nat.le_succ _)) h1.2 Z
  · exact absurd (h0.1.trans h1.1.symm) c9
set_option maxHeartbeats 4000000 in
set_option maxRecDepth 100000 in
theorem law_c6 {p : Program} {e : Env} {s : State} {m : MethodId} {below : List Frame} {meth : Method} {c : Code} (l : Launch) {b L : Nat} {xs : Nat → Int32} {D : va_G} {dA dB : Nat → ClassId} {o o2 : Nat} {q q2 : Nat → Nat} (C0 : lw_At p s m meth c b L xs) (hK0 : va_K D vwCl (tX0 dA) s) (hK1 : va_K D vwCl (tX1 dB) s) (k : Nat) (hk : 3 * k + 3 ≤ L) (hL : L ≤ 1536) (α σ τ : CS) (H : Heap) (locs : List Loc) (ls : Array Slot) (hJ : Jv α σ k) (ham : Am α τ) (Z : gL D dA o q dB o2 q2 (fun q : Nat => s.heap.size ≤ q) s.heap σ τ H locs) (hl : lv_has ls 4 [(0, .ref b), (1, .ref o), (2, .ref o2), (3, .int (nI (3 * k)))]) (kk : ∀ (α σ τ : CS) (H : Heap) (locs : List Loc), Jv α σ (k + 1) → Am α τ → gL D dA o q dB o2 q2 (fun q : Nat => s.heap.size ≤ q) s.heap σ τ H locs → W p l e room_1 s m #[Value.ref b] below meth c H locs 27 3563 (lw_Z below #[Value.ref b] s) (F0 m 370 ls [])) : W p l e room_1 s m #[Value.ref b] below meth c H locs 27 3563 (lw_Z below #[Value.ref b] s) (F0 m 222 ls []) := by
  obtain ⟨hx, hb, hr, hml, hown, hts0, hX, hbl, hlocks, hgv⟩ := C0
  have hts : ∀ w ∈ lw_all, w.before #[Value.ref b] s = true := fun w h => hts0 w (lw_all_tbl h)
  have hA : ∀ q : Nat, s.heap.size ≤ q → (fun q : Nat => s.heap.size ≤ q) q := fun _ h => h
  have hbA : ¬ (fun q : Nat => s.heap.size ≤ q) b := Nat.not_le.mpr hbl
  have hi1 : vp_in ((nI (3 * k)) + 1) L := by rw [nI_1]; exact vp_in_nI (by omega) (by omega)
  have hi2 : vp_in ((nI (3 * k)) + 2) L := by rw [nI_2]; exact vp_in_nI (by omega) (by omega)
  have hB : k < 1100 := by omega
  refine lv_aload_n hx hb dL_law_222 rfl (lv_at hl 1 rfl) ?_
  refine lv_aload_n hx hb dL_law_223 rfl (lv_at hl 0 rfl) ?_
  refine lv_iload_n hx hb dL_law_224 rfl (lv_at hl 3 rfl) ?_
  refine lv_iconst (v := 1) hx hb dL_law_225 (by decide) ?_
  refine lv_iadd hx hb dL_law_226 ?_
  refine va_sld hx hb hX hbl hbA Z.2.2 hi1 dL_law_227 ?_
  refine lv_topi (fun v1 e_v1 => ?_)
  refine lv_aload_n hx hb dL_law_228 rfl (lv_at hl 0 rfl) ?_
  refine lv_iload_n hx hb dL_law_229 rfl (lv_at hl 3 rfl) ?_
  refine lv_iconst (v := 2) hx hb dL_law_230 (by decide) ?_
  refine lv_iadd hx hb dL_law_231 ?_
  refine va_sld hx hb hX hbl hbA Z.2.2 hi2 dL_law_232 ?_
  refine lv_topi (fun v2 e_v2 => ?_)
  obtain ⟨r, α', g1, g2⟩ := J_meld hJ hB v1 v2
  obtain ⟨nh, e8, hnh⟩ := J_nh hJ
  refine gL0I (As := [.int v1, .int v2]) (rest := []) ⟨hx, hb, hml, hown, hts⟩ hK0 Z hA (c0_meld l D dA o q σ α v1 v2 r α' hJ.1 g1 (J_tokOf hJ hB v2) (J_tok hJ hB)) (cwV 2 hts (lw_V q166 q167 q168 q25 q169) rfl rfl rfl (by decide +kernel) ⟨Nat.le_of_ble_eq_true rfl, Nat.le_of_ble_eq_true rfl⟩) rfl hl.1 rfl (Nat.le_of_ble_eq_true rfl) dL_law_233 ⟨Nat.le_of_ble_eq_true rfl, Nat.le_of_ble_eq_true rfl⟩ (fun r0 σ' H locs h0 Z => ?_)
  refine lv_aload_n hx hb dL_law_236 rfl (lv_at hl 2 rfl) ?_
  refine lv_aload_n hx hb dL_law_237 rfl (lv_at hl 0 rfl) ?_
  refine lv_iload_n hx hb dL_law_238 rfl (lv_at hl 3 rfl) ?_
  refine lv_iconst (v := 1) hx hb dL_law_239 (by decide) ?_
  refine lv_iadd hx hb dL_law_240 ?_
  refine va_sld hx hb hX hbl hbA Z.2.2 hi1 dL_law_241 ?_
  refine lv_topi (fun u1 e_u1 => ?_)
  have e9 : v1 = u1 := e_v1.trans e_u1.symm
  subst e9
  refine lv_aload_n hx hb dL_law_242 rfl (lv_at hl 0 rfl) ?_
  refine lv_iload_n hx hb dL_law_243 rfl (lv_at hl 3 rfl) ?_
  refine lv_iconst (v := 2) hx hb dL_law_244 (by decide) ?_
  refine lv_iadd hx hb dL_law_245 ?_
  refine va_sld hx hb hX hbl hbA Z.2.2 hi2 dL_law_246 ?_
  refine lv_topi (fun u2 e_u2 => ?_)
  have e9 : v2 = u2 := e_v2.trans e_u2.symm
  subst e9
  refine gL1I (As := [.int v1, .int v2]) (rest := [.int r0]) ⟨hx, hb, hml, hown, hts⟩ hK1 Z hA (c1_meld l D dB o2 q2 τ α v1 v2 r α' nh e8 hnh ham g1) (cwV 2 hts (lw_V q305 q306 q307 q26 q308) rfl rfl rfl (by decide +kernel) ⟨Nat.le_of_ble_eq_true rfl, Nat.le_of_ble_eq_true rfl⟩) rfl hl.1 rfl (Nat.le_of_ble_eq_true rfl) dL_law_247 ⟨Nat.le_of_ble_eq_true rfl, Nat.le_of_ble_eq_true rfl⟩ (fun r1 τ' H locs h1 Z => ?_)
  refine lv_icmp_eq (tgt := 370) hx hb dL_law_250 (by decide) (fun c9 => ?_) (fun c9 => ?_)
  · skip
    exact kk α' σ' τ' H locs (g2 σ' h0.2.1 h0.2.2) h1.2 Z
  · exact absurd (h0.1.trans h1.1.symm) c9
set_option maxHeartbeats 4000000 in
set_option maxRecDepth 100000 in
theorem law_c7 {p : Program} {e : Env} {s : State} {m : MethodId} {below : List Frame} {meth : Method} {c : Code} (l : Launch) {b L : Nat} {xs : Nat → Int32} {D : va_G} {dA dB : Nat → ClassId} {o o2 : Nat} {q q2 : Nat → Nat} (C0 : lw_At p s m meth c b L xs) (hK0 : va_K D vwCl (tX0 dA) s) (hK1 : va_K D vwCl (tX1 dB) s) (k : Nat) (hk : 3 * k + 3 ≤ L) (hL : L ≤ 1536) (α σ τ : CS) (H : Heap) (locs : List Loc) (ls : Array Slot) (hJ : Jv α σ k) (ham : Am α τ) (Z : gL D dA o q dB o2 q2 (fun q : Nat => s.heap.size ≤ q) s.heap σ τ H locs) (hl : lv_has ls 4 [(0, .ref b), (1, .ref o), (2, .ref o2), (3, .int (nI (3 * k)))]) (kk : ∀ (α σ τ : CS) (H : Heap) (locs : List Loc), Jv α σ (k + 1) → Am α τ → gL D dA o q dB o2 q2 (fun q : Nat => s.heap.size ≤ q) s.heap σ τ H locs → W p l e room_1 s m #[Value.ref b] below meth c H locs 27 3563 (lw_Z below #[Value.ref b] s) (F0 m 370 ls [])) : W p l e room_1 s m #[Value.ref b] below meth c H locs 27 3563 (lw_Z below #[Value.ref b] s) (F0 m 255 ls []) := by
  obtain ⟨hx, hb, hr, hml, hown, hts0, hX, hbl, hlocks, hgv⟩ := C0
  have hts : ∀ w ∈ lw_all, w.before #[Value.ref b] s = true := fun w h => hts0 w (lw_all_tbl h)
  have hA : ∀ q : Nat, s.heap.size ≤ q → (fun q : Nat => s.heap.size ≤ q) q := fun _ h => h
  have hbA : ¬ (fun q : Nat => s.heap.size ≤ q) b := Nat.not_le.mpr hbl
  have hi1 : vp_in ((nI (3 * k)) + 1) L := by rw [nI_1]; exact vp_in_nI (by omega) (by omega)
  have hi2 : vp_in ((nI (3 * k)) + 2) L := by rw [nI_2]; exact vp_in_nI (by omega) (by omega)
  have hB : k < 1100 := by omega
  refine lv_aload_n hx hb dL_law_255 rfl (lv_at hl 1 rfl) ?_
  refine lv_aload_n hx hb dL_law_256 rfl (lv_at hl 0 rfl) ?_
  refine lv_iload_n hx hb dL_law_257 rfl (lv_at hl 3 rfl) ?_
  refine lv_iconst (v := 1) hx hb dL_law_258 (by decide) ?_
  refine lv_iadd hx hb dL_law_259 ?_
  refine va_sld hx hb hX hbl hbA Z.2.2 hi1 dL_law_260 ?_
  refine lv_topi (fun v1 e_v1 => ?_)
  refine gL0I (As := [.int v1]) (rest := []) ⟨hx, hb, hml, hown, hts⟩ hK0 Z hA (c0_keyOf l D dA o q σ α v1 hJ.1) (cwV 1 hts (lw_V q170 q171 q172 q25 q173) rfl rfl rfl (by decide +kernel) ⟨Nat.le_of_ble_eq_true rfl, Nat.le_of_ble_eq_true rfl⟩) rfl hl.1 rfl (Nat.le_of_ble_eq_true rfl) dL_law_261 ⟨Nat.le_of_ble_eq_true rfl, Nat.le_of_ble_eq_true rfl⟩ (fun r0 σ' H locs h0 Z => ?_)
  refine lv_aload_n hx hb dL_law_264 rfl (lv_at hl 2 rfl) ?_
  refine lv_aload_n hx hb dL_law_265 rfl (lv_at hl 0 rfl) ?_
  refine lv_iload_n hx hb dL_law_266 rfl (lv_at hl 3 rfl) ?_
  refine lv_iconst (v := 1) hx hb dL_law_267 (by decide) ?_
  refine lv_iadd hx hb dL_law_268 ?_
  refine va_sld hx hb hX hbl hbA Z.2.2 hi1 dL_law_269 ?_
  refine lv_topi (fun u1 e_u1 => ?_)
  have e9 : v1 = u1 := e_v1.trans e_u1.symm
  subst e9
  refine gL1I (As := [.int v1]) (rest := [.int r0]) ⟨hx, hb, hml, hown, hts⟩ hK1 Z hA (c1_keyOf l D dB o2 q2 τ α v1 ham) (cwV 1 hts (lw_V q309 q310 q311 q26 q312) rfl rfl rfl (by decide +kernel) ⟨Nat.le_of_ble_eq_true rfl, Nat.le_of_ble_eq_true rfl⟩) rfl hl.1 rfl (Nat.le_of_ble_eq_true rfl) dL_law_270 ⟨Nat.le_of_ble_eq_true rfl, Nat.le_of_ble_eq_true rfl⟩ (fun r1 τ' H locs h1 Z => ?_)
  obtain ⟨x1, x2⟩ := h0
  obtain ⟨y1, y2⟩ := h1
  rw [x1, y1] at Z
  refine lv_icmp_eq (tgt := 370) hx hb dL_law_273 (by decide) (fun c9 => ?_) (fun c9 => ?_)
  · skip
    exact kk α σ τ H locs (Jv_le hJ (Nat.le_succ _)) ham Z
  · exact absurd (by rcases x2 with ⟨p1, p2⟩ | ⟨p1, p2⟩ <;> rcases y2 with ⟨p3, p4⟩ | ⟨p3, p4⟩; exact p2.trans p4.symm; exact absurd p1 p3; exact absurd p3 p1; exact p2.trans p4.symm) c9
set_option maxHeartbeats 4000000 in
set_option maxRecDepth 100000 in
theorem law_c8 {p : Program} {e : Env} {s : State} {m : MethodId} {below : List Frame} {meth : Method} {c : Code} (l : Launch) {b L : Nat} {xs : Nat → Int32} {D : va_G} {dA dB : Nat → ClassId} {o o2 : Nat} {q q2 : Nat → Nat} (C0 : lw_At p s m meth c b L xs) (hK0 : va_K D vwCl (tX0 dA) s) (hK1 : va_K D vwCl (tX1 dB) s) (k : Nat) (hk : 3 * k + 3 ≤ L) (hL : L ≤ 1536) (α σ τ : CS) (H : Heap) (locs : List Loc) (ls : Array Slot) (hJ : Jv α σ k) (ham : Am α τ) (Z : gL D dA o q dB o2 q2 (fun q : Nat => s.heap.size ≤ q) s.heap σ τ H locs) (hl : lv_has ls 4 [(0, .ref b), (1, .ref o), (2, .ref o2), (3, .int (nI (3 * k)))]) (kk : ∀ (α σ τ : CS) (H : Heap) (locs : List Loc), Jv α σ (k + 1) → Am α τ → gL D dA o q dB o2 q2 (fun q : Nat => s.heap.size ≤ q) s.heap σ τ H locs → W p l e room_1 s m #[Value.ref b] below meth c H locs 27 3563 (lw_Z below #[Value.ref b] s) (F0 m 370 ls [])) : W p l e room_1 s m #[Value.ref b] below meth c H locs 27 3563 (lw_Z below #[Value.ref b] s) (F0 m 278 ls []) := by
  obtain ⟨hx, hb, hr, hml, hown, hts0, hX, hbl, hlocks, hgv⟩ := C0
  have hts : ∀ w ∈ lw_all, w.before #[Value.ref b] s = true := fun w h => hts0 w (lw_all_tbl h)
  have hA : ∀ q : Nat, s.heap.size ≤ q → (fun q : Nat => s.heap.size ≤ q) q := fun _ h => h
  have hbA : ¬ (fun q : Nat => s.heap.size ≤ q) b := Nat.not_le.mpr hbl
  have hi1 : vp_in ((nI (3 * k)) + 1) L := by rw [nI_1]; exact vp_in_nI (by omega) (by omega)
  have hi2 : vp_in ((nI (3 * k)) + 2) L := by rw [nI_2]; exact vp_in_nI (by omega) (by omega)
  have hB : k < 1100 := by omega
  refine lv_aload_n hx hb dL_law_278 rfl (lv_at hl 1 rfl) ?_
  refine lv_aload_n hx hb dL_law_279 rfl (lv_at hl 0 rfl) ?_
  refine lv_iload_n hx hb dL_law_280 rfl (lv_at hl 3 rfl) ?_
  refine lv_iconst (v := 1) hx hb dL_law_281 (by decide) ?_
  refine lv_iadd hx hb dL_law_282 ?_
  refine va_sld hx hb hX hbl hbA Z.2.2 hi1 dL_law_283 ?_
  refine lv_topi (fun v1 e_v1 => ?_)
  obtain ⟨nh, e8, hnh⟩ := J_nh hJ
  refine gL0I (As := [.int v1]) (rest := []) ⟨hx, hb, hml, hown, hts⟩ hK0 Z hA (c0_size l D dA o q σ α v1 nh hJ.1 e8 hnh) (cwV 1 hts (lw_V q174 q175 q176 q25 q177) rfl rfl rfl (by decide +kernel) ⟨Nat.le_of_ble_eq_true rfl, Nat.le_of_ble_eq_true rfl⟩) rfl hl.1 rfl (Nat.le_of_ble_eq_true rfl) dL_law_284 ⟨Nat.le_of_ble_eq_true rfl, Nat.le_of_ble_eq_true rfl⟩ (fun r0 σ' H locs h0 Z => ?_)
  refine lv_aload_n hx hb dL_law_287 rfl (lv_at hl 2 rfl) ?_
  refine lv_aload_n hx hb dL_law_288 rfl (lv_at hl 0 rfl) ?_
  refine lv_iload_n hx hb dL_law_289 rfl (lv_at hl 3 rfl) ?_
  refine lv_iconst (v := 1) hx hb dL_law_290 (by decide) ?_
  refine lv_iadd hx hb dL_law_291 ?_
  refine va_sld hx hb hX hbl hbA Z.2.2 hi1 dL_law_292 ?_
  refine lv_topi (fun u1 e_u1 => ?_)
  have e9 : v1 = u1 := e_v1.trans e_u1.symm
  subst e9
  refine gL1I (As := [.int v1]) (rest := [.int r0]) ⟨hx, hb, hml, hown, hts⟩ hK1 Z hA (c1_size l D dB o2 q2 τ α v1 (σ 7 v1.toNatClampNeg) nh e8 hnh ham (J_size hJ v1)) (cwV 1 hts (lw_V q313 q314 q315 q26 q316) rfl rfl rfl (by decide +kernel) ⟨Nat.le_of_ble_eq_true rfl, Nat.le_of_ble_eq_true rfl⟩) rfl hl.1 rfl (Nat.le_of_ble_eq_true rfl) dL_law_293 ⟨Nat.le_of_ble_eq_true rfl, Nat.le_of_ble_eq_true rfl⟩ (fun r1 τ' H locs h1 Z => ?_)
  obtain ⟨x1, x2⟩ := h0
  obtain ⟨y1, y2⟩ := h1
  rw [x1] at Z
  refine lv_icmp_eq (tgt := 370) hx hb dL_law_296 (by decide) (fun c9 => ?_) (fun c9 => ?_)
  · skip
    exact kk α σ τ' H locs (Jv_le hJ (Nat.le_succ _)) y1 Z
  · exact absurd (by rcases x2 with ⟨p1, p2⟩ | ⟨p1, p2⟩ <;> rcases y2 with ⟨p3, p4⟩ | ⟨p3, p4⟩; exact p2.trans p4.symm; exact absurd p1 p3; exact absurd p3 p1; exact p2.trans p4.symm) c9
set_option maxHeartbeats 4000000 in
set_option maxRecDepth 100000 in
theorem law_c9 {p : Program} {e : Env} {s : State} {m : MethodId} {below : List Frame} {meth : Method} {c : Code} (l : Launch) {b L : Nat} {xs : Nat → Int32} {D : va_G} {dA dB : Nat → ClassId} {o o2 : Nat} {q q2 : Nat → Nat} (C0 : lw_At p s m meth c b L xs) (hK0 : va_K D vwCl (tX0 dA) s) (hK1 : va_K D vwCl (tX1 dB) s) (k : Nat) (hk : 3 * k + 3 ≤ L) (hL : L ≤ 1536) (α σ τ : CS) (H : Heap) (locs : List Loc) (ls : Array Slot) (hJ : Jv α σ k) (ham : Am α τ) (Z : gL D dA o q dB o2 q2 (fun q : Nat => s.heap.size ≤ q) s.heap σ τ H locs) (hl : lv_has ls 4 [(0, .ref b), (1, .ref o), (2, .ref o2), (3, .int (nI (3 * k)))]) (kk : ∀ (α σ τ : CS) (H : Heap) (locs : List Loc), Jv α σ (k + 1) → Am α τ → gL D dA o q dB o2 q2 (fun q : Nat => s.heap.size ≤ q) s.heap σ τ H locs → W p l e room_1 s m #[Value.ref b] below meth c H locs 27 3563 (lw_Z below #[Value.ref b] s) (F0 m 370 ls [])) : W p l e room_1 s m #[Value.ref b] below meth c H locs 27 3563 (lw_Z below #[Value.ref b] s) (F0 m 301 ls []) := by
  obtain ⟨hx, hb, hr, hml, hown, hts0, hX, hbl, hlocks, hgv⟩ := C0
  have hts : ∀ w ∈ lw_all, w.before #[Value.ref b] s = true := fun w h => hts0 w (lw_all_tbl h)
  have hA : ∀ q : Nat, s.heap.size ≤ q → (fun q : Nat => s.heap.size ≤ q) q := fun _ h => h
  have hbA : ¬ (fun q : Nat => s.heap.size ≤ q) b := Nat.not_le.mpr hbl
  have hi1 : vp_in ((nI (3 * k)) + 1) L := by rw [nI_1]; exact vp_in_nI (by omega) (by omega)
  have hi2 : vp_in ((nI (3 * k)) + 2) L := by rw [nI_2]; exact vp_in_nI (by omega) (by omega)
  have hB : k < 1100 := by omega
  refine lv_aload_n hx hb dL_law_301 rfl (lv_at hl 1 rfl) ?_
  refine gL0I (As := []) (rest := []) ⟨hx, hb, hml, hown, hts⟩ hK0 Z hA (c0_cellsFree l D dA o q σ) (cwV 0 hts (lw_V q178 q179 q180 q25 q181) rfl rfl rfl (by decide +kernel) ⟨Nat.le_of_ble_eq_true rfl, Nat.le_of_ble_eq_true rfl⟩) rfl hl.1 rfl (Nat.le_of_ble_eq_true rfl) dL_law_302 ⟨Nat.le_of_ble_eq_true rfl, Nat.le_of_ble_eq_true rfl⟩ (fun r0 σ' H locs h0 Z => ?_)
  refine lv_aload_n hx hb dL_law_305 rfl (lv_at hl 2 rfl) ?_
  refine gL1I (As := []) (rest := [.int r0]) ⟨hx, hb, hml, hown, hts⟩ hK1 Z hA (c1_cellsFree l D dB o2 q2 τ) (cwV 0 hts (lw_V q321 q322 q323 q26 q324) rfl rfl rfl (by decide +kernel) ⟨Nat.le_of_ble_eq_true rfl, Nat.le_of_ble_eq_true rfl⟩) rfl hl.1 rfl (Nat.le_of_ble_eq_true rfl) dL_law_306 ⟨Nat.le_of_ble_eq_true rfl, Nat.le_of_ble_eq_true rfl⟩ (fun r1 τ' H locs h1 Z => ?_)
  obtain ⟨x1, x2⟩ := h0
  obtain ⟨y1, y2⟩ := h1
  rw [x1, y1] at Z
  refine lv_icmp_eq (tgt := 370) hx hb dL_law_309 (by decide) (fun c9 => ?_) (fun c9 => ?_)
  · skip
    exact kk α σ τ H locs (Jv_le hJ (Nat.le_succ _)) ham Z
  · exact absurd (x2.trans ((hJ.1.2.2.2.2.2.2.1.trans (by rw [ham 6 (by decide)])).trans y2.symm)) c9
set_option maxHeartbeats 4000000 in
set_option maxRecDepth 100000 in
theorem law_c10 {p : Program} {e : Env} {s : State} {m : MethodId} {below : List Frame} {meth : Method} {c : Code} (l : Launch) {b L : Nat} {xs : Nat → Int32} {D : va_G} {dA dB : Nat → ClassId} {o o2 : Nat} {q q2 : Nat → Nat} (C0 : lw_At p s m meth c b L xs) (hK0 : va_K D vwCl (tX0 dA) s) (hK1 : va_K D vwCl (tX1 dB) s) (k : Nat) (hk : 3 * k + 3 ≤ L) (hL : L ≤ 1536) (α σ τ : CS) (H : Heap) (locs : List Loc) (ls : Array Slot) (hJ : Jv α σ k) (ham : Am α τ) (Z : gL D dA o q dB o2 q2 (fun q : Nat => s.heap.size ≤ q) s.heap σ τ H locs) (hl : lv_has ls 4 [(0, .ref b), (1, .ref o), (2, .ref o2), (3, .int (nI (3 * k)))]) (kk : ∀ (α σ τ : CS) (H : Heap) (locs : List Loc), Jv α σ (k + 1) → Am α τ → gL D dA o q dB o2 q2 (fun q : Nat => s.heap.size ≤ q) s.heap σ τ H locs → W p l e room_1 s m #[Value.ref b] below meth c H locs 27 3563 (lw_Z below #[Value.ref b] s) (F0 m 370 ls [])) : W p l e room_1 s m #[Value.ref b] below meth c H locs 27 3563 (lw_Z below #[Value.ref b] s) (F0 m 314 ls []) := by
  obtain ⟨hx, hb, hr, hml, hown, hts0, hX, hbl, hlocks, hgv⟩ := C0
  have hts : ∀ w ∈ lw_all, w.before #[Value.ref b] s = true := fun w h => hts0 w (lw_all_tbl h)
  have hA : ∀ q : Nat, s.heap.size ≤ q → (fun q : Nat => s.heap.size ≤ q) q := fun _ h => h
  have hbA : ¬ (fun q : Nat => s.heap.size ≤ q) b := Nat.not_le.mpr hbl
  have hi1 : vp_in ((nI (3 * k)) + 1) L := by rw [nI_1]; exact vp_in_nI (by omega) (by omega)
  have hi2 : vp_in ((nI (3 * k)) + 2) L := by rw [nI_2]; exact vp_in_nI (by omega) (by omega)
  have hB : k < 1100 := by omega
  refine lv_aload_n hx hb dL_law_314 rfl (lv_at hl 1 rfl) ?_
  refine lv_aload_n hx hb dL_law_315 rfl (lv_at hl 0 rfl) ?_
  refine lv_iload_n hx hb dL_law_316 rfl (lv_at hl 3 rfl) ?_
  refine lv_iconst (v := 1) hx hb dL_law_317 (by decide) ?_
  refine lv_iadd hx hb dL_law_318 ?_
  refine va_sld hx hb hX hbl hbA Z.2.2 hi1 dL_law_319 ?_
  refine lv_topi (fun v1 e_v1 => ?_)
  refine lv_aload_n hx hb dL_law_320 rfl (lv_at hl 0 rfl) ?_
  refine lv_iload_n hx hb dL_law_321 rfl (lv_at hl 3 rfl) ?_
  refine lv_iconst (v := 2) hx hb dL_law_322 (by decide) ?_
  refine lv_iadd hx hb dL_law_323 ?_
  refine va_sld hx hb hX hbl hbA Z.2.2 hi2 dL_law_324 ?_
  refine lv_topi (fun v2 e_v2 => ?_)
  obtain ⟨ld, t9, nh, e8, hnh, g1, g2⟩ := J_node hJ (by omega) v1
  refine gL0I (As := [.int v1, .int v2]) (rest := []) ⟨hx, hb, hml, hown, hts⟩ hK0 Z hA (c0_node l D dA o q σ α v1 v2 ld t9 hJ.1 (fun a b => (g1 a b).1)) (cwV 2 hts (lw_V q182 q183 q184 q25 q185) rfl rfl rfl (by decide +kernel) ⟨Nat.le_of_ble_eq_true rfl, Nat.le_of_ble_eq_true rfl⟩) rfl hl.1 rfl (Nat.le_of_ble_eq_true rfl) dL_law_325 ⟨Nat.le_of_ble_eq_true rfl, Nat.le_of_ble_eq_true rfl⟩ (fun r0 σ' H locs h0 Z => ?_)
  refine lv_aload_n hx hb dL_law_328 rfl (lv_at hl 2 rfl) ?_
  refine lv_aload_n hx hb dL_law_329 rfl (lv_at hl 0 rfl) ?_
  refine lv_iload_n hx hb dL_law_330 rfl (lv_at hl 3 rfl) ?_
  refine lv_iconst (v := 1) hx hb dL_law_331 (by decide) ?_
  refine lv_iadd hx hb dL_law_332 ?_
  refine va_sld hx hb hX hbl hbA Z.2.2 hi1 dL_law_333 ?_
  refine lv_topi (fun u1 e_u1 => ?_)
  have e9 : v1 = u1 := e_v1.trans e_u1.symm
  subst e9
  refine lv_aload_n hx hb dL_law_334 rfl (lv_at hl 0 rfl) ?_
  refine lv_iload_n hx hb dL_law_335 rfl (lv_at hl 3 rfl) ?_
  refine lv_iconst (v := 2) hx hb dL_law_336 (by decide) ?_
  refine lv_iadd hx hb dL_law_337 ?_
  refine va_sld hx hb hX hbl hbA Z.2.2 hi2 dL_law_338 ?_
  refine lv_topi (fun u2 e_u2 => ?_)
  have e9 : v2 = u2 := e_v2.trans e_u2.symm
  subst e9
  refine gL1I (As := [.int v1, .int v2]) (rest := [.int r0]) ⟨hx, hb, hml, hown, hts⟩ hK1 Z hA (c1_node l D dB o2 q2 τ α v1 v2 (σ 10 t9.toNatClampNeg) nh ham e8 hnh (fun a b => (g1 a b).2)) (cwV 2 hts (lw_V q325 q326 q327 q26 q328) rfl rfl rfl (by decide +kernel) ⟨Nat.le_of_ble_eq_true rfl, Nat.le_of_ble_eq_true rfl⟩) rfl hl.1 rfl (Nat.le_of_ble_eq_true rfl) dL_law_339 ⟨Nat.le_of_ble_eq_true rfl, Nat.le_of_ble_eq_true rfl⟩ (fun r1 τ' H locs h1 Z => ?_)
  refine lv_icmp_eq (tgt := 370) hx hb dL_law_342 (by decide) (fun c9 => ?_) (fun c9 => ?_)
  · skip
    exact kk α σ' τ' H locs (Jv_le (g2 σ' h0.2.1 h0.2.2) (Nat.le_succ _)) h1.2 Z
  · exact absurd (Nd_fun h0.1 h1.1) c9
set_option maxHeartbeats 4000000 in
set_option maxRecDepth 100000 in
theorem law_c11 {p : Program} {e : Env} {s : State} {m : MethodId} {below : List Frame} {meth : Method} {c : Code} (l : Launch) {b L : Nat} {xs : Nat → Int32} {D : va_G} {dA dB : Nat → ClassId} {o o2 : Nat} {q q2 : Nat → Nat} (C0 : lw_At p s m meth c b L xs) (hK0 : va_K D vwCl (tX0 dA) s) (hK1 : va_K D vwCl (tX1 dB) s) (k : Nat) (hk : 3 * k + 3 ≤ L) (hL : L ≤ 1536) (α σ τ : CS) (H : Heap) (locs : List Loc) (ls : Array Slot) (hJ : Jv α σ k) (ham : Am α τ) (Z : gL D dA o q dB o2 q2 (fun q : Nat => s.heap.size ≤ q) s.heap σ τ H locs) (hl : lv_has ls 4 [(0, .ref b), (1, .ref o), (2, .ref o2), (3, .int (nI (3 * k)))]) (kk : ∀ (α σ τ : CS) (H : Heap) (locs : List Loc), Jv α σ (k + 1) → Am α τ → gL D dA o q dB o2 q2 (fun q : Nat => s.heap.size ≤ q) s.heap σ τ H locs → W p l e room_1 s m #[Value.ref b] below meth c H locs 27 3563 (lw_Z below #[Value.ref b] s) (F0 m 370 ls [])) : W p l e room_1 s m #[Value.ref b] below meth c H locs 27 3563 (lw_Z below #[Value.ref b] s) (F0 m 347 ls []) := by
  obtain ⟨hx, hb, hr, hml, hown, hts0, hX, hbl, hlocks, hgv⟩ := C0
  have hts : ∀ w ∈ lw_all, w.before #[Value.ref b] s = true := fun w h => hts0 w (lw_all_tbl h)
  have hA : ∀ q : Nat, s.heap.size ≤ q → (fun q : Nat => s.heap.size ≤ q) q := fun _ h => h
  have hbA : ¬ (fun q : Nat => s.heap.size ≤ q) b := Nat.not_le.mpr hbl
  have hi1 : vp_in ((nI (3 * k)) + 1) L := by rw [nI_1]; exact vp_in_nI (by omega) (by omega)
  have hi2 : vp_in ((nI (3 * k)) + 2) L := by rw [nI_2]; exact vp_in_nI (by omega) (by omega)
  have hB : k < 1100 := by omega
  refine lv_aload_n hx hb dL_law_347 rfl (lv_at hl 1 rfl) ?_
  refine lv_aload_n hx hb dL_law_348 rfl (lv_at hl 0 rfl) ?_
  refine lv_iload_n hx hb dL_law_349 rfl (lv_at hl 3 rfl) ?_
  refine lv_iconst (v := 1) hx hb dL_law_350 (by decide) ?_
  refine lv_iadd hx hb dL_law_351 ?_
  refine va_sld hx hb hX hbl hbA Z.2.2 hi1 dL_law_352 ?_
  refine lv_topi (fun v1 e_v1 => ?_)
  obtain ⟨nh, e8, hnh⟩ := J_nh hJ
  refine gL0I (As := [.int v1]) (rest := []) ⟨hx, hb, hml, hown, hts⟩ hK0 Z hA (c0_topOf l D dA o q σ α v1 nh hJ.1 e8 hnh) (cwV 1 hts (lw_V q186 q187 q188 q25 q189) rfl rfl rfl (by decide +kernel) ⟨Nat.le_of_ble_eq_true rfl, Nat.le_of_ble_eq_true rfl⟩) rfl hl.1 rfl (Nat.le_of_ble_eq_true rfl) dL_law_353 ⟨Nat.le_of_ble_eq_true rfl, Nat.le_of_ble_eq_true rfl⟩ (fun r0 σ' H locs h0 Z => ?_)
  refine lv_aload_n hx hb dL_law_356 rfl (lv_at hl 2 rfl) ?_
  refine lv_aload_n hx hb dL_law_357 rfl (lv_at hl 0 rfl) ?_
  refine lv_iload_n hx hb dL_law_358 rfl (lv_at hl 3 rfl) ?_
  refine lv_iconst (v := 1) hx hb dL_law_359 (by decide) ?_
  refine lv_iadd hx hb dL_law_360 ?_
  refine va_sld hx hb hX hbl hbA Z.2.2 hi1 dL_law_361 ?_
  refine lv_topi (fun u1 e_u1 => ?_)
  have e9 : v1 = u1 := e_v1.trans e_u1.symm
  subst e9
  refine gL1I (As := [.int v1]) (rest := [.int r0]) ⟨hx, hb, hml, hown, hts⟩ hK1 Z hA (c1_topOf l D dB o2 q2 τ α v1 nh e8 hnh ham) (cwV 1 hts (lw_V q333 q334 q335 q26 q336) rfl rfl rfl (by decide +kernel) ⟨Nat.le_of_ble_eq_true rfl, Nat.le_of_ble_eq_true rfl⟩) rfl hl.1 rfl (Nat.le_of_ble_eq_true rfl) dL_law_362 ⟨Nat.le_of_ble_eq_true rfl, Nat.le_of_ble_eq_true rfl⟩ (fun r1 τ' H locs h1 Z => ?_)
  obtain ⟨x1, x2⟩ := h0
  obtain ⟨y1, y2⟩ := h1
  rw [x1, y1] at Z
  refine lv_icmp_eq (tgt := 370) hx hb dL_law_365 (by decide) (fun c9 => ?_) (fun c9 => ?_)
  · skip
    exact kk α σ τ H locs (Jv_le hJ (Nat.le_succ _)) ham Z
  · exact absurd (by rcases x2 with ⟨p1, p2⟩ | ⟨p1, p2⟩ <;> rcases y2 with ⟨p3, p4⟩ | ⟨p3, p4⟩; exact p2.trans p4.symm; exact absurd p1 p3; exact absurd p3 p1; exact p2.trans p4.symm) c9
end
section
set_option maxHeartbeats 4000000 in
set_option maxRecDepth 100000 in
theorem law_loop {p : Program} {e : Env} {s : State} {m : MethodId} {below : List Frame} {meth : Method} {c : Code} (l : Launch) {b L : Nat} {xs : Nat → Int32} {D : va_G} {dA dB : Nat → ClassId} {o o2 : Nat} {q q2 : Nat → Nat} (C0 : lw_At p s m meth c b L xs) (hK0 : va_K D vwCl (tX0 dA) s) (hK1 : va_K D vwCl (tX1 dB) s) (hL : L ≤ 1536) : ∀ (n k : Nat) (α σ τ : CS) (H : Heap) (locs : List Loc) (ls : Array Slot), n + k = 513 → 3 * k ≤ L → Jv α σ k → Am α τ → gL D dA o q dB o2 q2 (fun q : Nat => s.heap.size ≤ q) s.heap σ τ H locs → lv_has ls 4 [(0, .ref b), (1, .ref o), (2, .ref o2), (3, .int (nI (3 * k)))] → W p l e room_1 s m #[Value.ref b] below meth c H locs 27 3563 (lw_Z below #[Value.ref b] s) (F0 m 18 ls []) := by
  have C1 := C0
  obtain ⟨hx, hb, hr, hml, hown, hts0, hX, hbl, hlocks, hgv⟩ := C0
  have hts : ∀ w ∈ lw_all, w.before #[Value.ref b] s = true := fun w h => hts0 w (lw_all_tbl h)
  have hA : ∀ q : Nat, s.heap.size ≤ q → (fun q : Nat => s.heap.size ≤ q) q := fun _ h => h
  have hbA : ¬ (fun q : Nat => s.heap.size ≤ q) b := Nat.not_le.mpr hbl
  intro n
  induction n with
  | zero =>
    intro k α σ τ H locs ls hn hk
    omega
  | succ n ih =>
    intro k α σ τ H locs ls hn hk hJ ham Z hl
    refine lv_iload_n hx hb dL_law_18 rfl (lv_at hl 3 rfl) ?_
    refine lv_aload_n hx hb dL_law_19 rfl (lv_at hl 0 rfl) ?_
    refine va_slen hx hb hX hbl hbA Z.2.2 dL_law_20 ?_
    refine lv_iconst (v := 3) hx hb dL_law_21 (by decide) ?_
    refine lv_isub hx hb dL_law_22 ?_
    refine lv_icmp_gt (tgt := 376) hx hb dL_law_23 (by decide) (fun c9 => ?_) (fun c9 => ?_)
    · skip
      refine lv_iconst (v := 1) hx hb dL_law_376 (by decide) ?_
      refine va_forget (fun q hq => Z.2.2.2.2 q hq) ?_
      refine W.widen (k := 600000) (n := 7290000) (Nat.le_of_ble_eq_true rfl) (Nat.le_of_ble_eq_true rfl) ?_
      exact lw_ret hx hb hr hlocks dL_law_377
    · have hk3 := law_len hL hk c9
      have hi0 : vp_in (nI (3 * k)) L := vp_in_nI (by omega) (by omega)
      have kk : ∀ (α σ τ : CS) (H : Heap) (locs : List Loc), Jv α σ (k + 1) → Am α τ → gL D dA o q dB o2 q2 (fun q : Nat => s.heap.size ≤ q) s.heap σ τ H locs → W p l e room_1 s m #[Value.ref b] below meth c H locs 27 3563 (lw_Z below #[Value.ref b] s) (F0 m 370 ls []) := by
        intro α σ τ H locs hJ ham Z
        refine lv_iinc (v := nI (3 * (k + 1))) (lv' := [(3, .int (nI (3 * (k + 1)))), (0, .ref b), (1, .ref o), (2, .ref o2)]) hx hb dL_law_370 hl (k := 3) rfl (nI_add (3 * k) 3) (by decide) rfl (fun ls hl => ?_)
        refine lv_goto (tgt := 18) hx hb dL_law_373 (by decide) ?_
        exact ih (k + 1) α σ τ H locs ls (by omega) (by omega) hJ ham Z (lv_sub hl [1, 2, 3, 0] rfl)
      refine lv_aload_n hx hb dL_law_26 rfl (lv_at hl 0 rfl) ?_
      refine lv_iload_n hx hb dL_law_27 rfl (lv_at hl 3 rfl) ?_
      refine va_sld hx hb hX hbl hbA Z.2.2 hi0 dL_law_28 ?_
      refine lv_bipush (v := 15) hx hb dL_law_29 (by decide) ?_
      refine lv_iand hx hb dL_law_31 ?_
      refine lv_topi (fun w e_w => ?_)
      obtain ⟨j, hj, ej⟩ := pk_andE (xs (nI (3 * k)).toNatClampNeg) (m := 15) 4 (by decide)
      rw [ej] at e_w
      subst e_w
      match j, hj with
      | 0, _ =>
        refine lv_tableIn (x := nI 0) (off := 64) (tgt := 96) hx hb dL_law_32 (by decide +kernel) (by decide +kernel) (by decide +kernel) (by decide) ?_
        exact law_c0 l C1 hK0 hK1 k hk3 hL α σ τ H locs ls hJ ham Z hl kk
      | 1, _ =>
        refine lv_tableIn (x := nI 1) (off := 75) (tgt := 107) hx hb dL_law_32 (by decide +kernel) (by decide +kernel) (by decide +kernel) (by decide) ?_
        exact law_c1 l C1 hK0 hK1 k hk3 hL α σ τ H locs ls hJ ham Z hl kk
      | 2, _ =>
        refine lv_tableIn (x := nI 2) (off := 88) (tgt := 120) hx hb dL_law_32 (by decide +kernel) (by decide +kernel) (by decide +kernel) (by decide) ?_
        exact law_c2 l C1 hK0 hK1 k hk3 hL α σ τ H locs ls hJ ham Z hl kk
      | 3, _ =>
        refine lv_tableIn (x := nI 3) (off := 121) (tgt := 153) hx hb dL_law_32 (by decide +kernel) (by decide +kernel) (by decide +kernel) (by decide) ?_
        exact law_c3 l C1 hK0 hK1 k hk3 hL α σ τ H locs ls hJ ham Z hl kk
      | 4, _ =>
        refine lv_tableIn (x := nI 4) (off := 144) (tgt := 176) hx hb dL_law_32 (by decide +kernel) (by decide +kernel) (by decide +kernel) (by decide) ?_
        exact law_c4 l C1 hK0 hK1 k hk3 hL α σ τ H locs ls hJ ham Z hl kk
      | 5, _ =>
        refine lv_tableIn (x := nI 5) (off := 167) (tgt := 199) hx hb dL_law_32 (by decide +kernel) (by decide +kernel) (by decide +kernel) (by decide) ?_
        exact law_c5 l C1 hK0 hK1 k hk3 hL α σ τ H locs ls hJ ham Z hl kk
      | 6, _ =>
        refine lv_tableIn (x := nI 6) (off := 190) (tgt := 222) hx hb dL_law_32 (by decide +kernel) (by decide +kernel) (by decide +kernel) (by decide) ?_
        exact law_c6 l C1 hK0 hK1 k hk3 hL α σ τ H locs ls hJ ham Z hl kk
      | 7, _ =>
        refine lv_tableIn (x := nI 7) (off := 223) (tgt := 255) hx hb dL_law_32 (by decide +kernel) (by decide +kernel) (by decide +kernel) (by decide) ?_
        exact law_c7 l C1 hK0 hK1 k hk3 hL α σ τ H locs ls hJ ham Z hl kk
      | 8, _ =>
        refine lv_tableIn (x := nI 8) (off := 246) (tgt := 278) hx hb dL_law_32 (by decide +kernel) (by decide +kernel) (by decide +kernel) (by decide) ?_
        exact law_c8 l C1 hK0 hK1 k hk3 hL α σ τ H locs ls hJ ham Z hl kk
      | 9, _ =>
        refine lv_tableIn (x := nI 9) (off := 269) (tgt := 301) hx hb dL_law_32 (by decide +kernel) (by decide +kernel) (by decide +kernel) (by decide) ?_
        exact law_c9 l C1 hK0 hK1 k hk3 hL α σ τ H locs ls hJ ham Z hl kk
      | 10, _ =>
        refine lv_tableIn (x := nI 10) (off := 282) (tgt := 314) hx hb dL_law_32 (by decide +kernel) (by decide +kernel) (by decide +kernel) (by decide) ?_
        exact law_c10 l C1 hK0 hK1 k hk3 hL α σ τ H locs ls hJ ham Z hl kk
      | 11, _ =>
        refine lv_tableIn (x := nI 11) (off := 315) (tgt := 347) hx hb dL_law_32 (by decide +kernel) (by decide +kernel) (by decide +kernel) (by decide) ?_
        exact law_c11 l C1 hK0 hK1 k hk3 hL α σ τ H locs ls hJ ham Z hl kk
      | 12, _ =>
        refine lv_tableOut (x := nI 12) (tgt := 370) hx hb dL_law_32 (by decide +kernel) (by decide) ?_
        exact kk α σ τ H locs (Jv_le hJ (Nat.le_succ _)) ham Z
      | 13, _ =>
        refine lv_tableOut (x := nI 13) (tgt := 370) hx hb dL_law_32 (by decide +kernel) (by decide) ?_
        exact kk α σ τ H locs (Jv_le hJ (Nat.le_succ _)) ham Z
      | 14, _ =>
        refine lv_tableOut (x := nI 14) (tgt := 370) hx hb dL_law_32 (by decide +kernel) (by decide) ?_
        exact kk α σ τ H locs (Jv_le hJ (Nat.le_succ _)) ham Z
      | 15, _ =>
        refine lv_tableOut (x := nI 15) (tgt := 370) hx hb dL_law_32 (by decide +kernel) (by decide) ?_
        exact kk α σ τ H locs (Jv_le hJ (Nat.le_succ _)) ham Z
      | j + 16, hj => exact absurd hj (by omega)
end
section
set_option maxHeartbeats 4000000 in
set_option maxRecDepth 100000 in
theorem whole_start {p : Program} {e : Env} {s : State} {m : MethodId} {below : List Frame} {meth : Method} {c : Code} (l : Launch) {b L : Nat} {xs : Nat → Int32} (hL : L ≤ 1536) (C0 : lw_At p s m meth c b L xs) : W p l e room_1 s m #[Value.ref b] below meth c s.heap [] 0 0 (lw_Z below #[Value.ref b] s) (entryFrame m ([Value.ref b] : List Value).toArray 4) := by
  have C1 := C0
  obtain ⟨hx, hb, hr, hml, hown, hts0, hX, hbl, hlocks, hgv⟩ := C0
  have hts : ∀ w ∈ lw_all, w.before #[Value.ref b] s = true := fun w h => hts0 w (lw_all_tbl h)
  have hA : ∀ q : Nat, s.heap.size ≤ q → (fun q : Nat => s.heap.size ≤ q) q := fun _ h => h
  have hbA : ¬ (fun q : Nat => s.heap.size ≤ q) b := Nat.not_le.mpr hbl
  obtain ⟨c0_, iS0, hKn0⟩ := u_known (C := RX0) (T := TX0) (N := 18) (n := 18) hts0 (fun w h => lw_all_tbl (in_X0 w h)) (hts0 _ (lw_all_tbl q28))
  obtain ⟨c1_, iS1, hKn1⟩ := u_known (C := RX1) (T := TX1) (N := 13) (n := 13) hts0 (fun w h => lw_all_tbl (in_X1 w h)) (hts0 _ (lw_all_tbl q191))
  obtain ⟨D, hKc⟩ : ∃ D : va_G, ∀ (k : Nat) (q : vw_C), vwCl[k]? = some q → u_Kn s q.1 q.2.1 q.2.2 (D.1 k) (D.2 k) := by
    refine ⟨(fun k => if k = 0 then c0_ else c1_, fun k => if k = 0 then iS0 else iS1), ?_⟩
    intro k q hq
    match k, hq with
    | 0, hq => cases hq; exact hKn0
    | 1, hq => cases hq; exact hKn1
    | k + 2, hq => simp [vwCl] at hq
  have hS : va_S (fun q : Nat => s.heap.size ≤ q) s.heap s.heap [] := va_S.rf
  have hK : va_K D vwCl [] s := ⟨hKc, fun k q h => by simp at h⟩
  have hP : va_P D vwCl [] s.heap := fun k q h => by simp at h
  have hD : va_D (fun q : Nat => s.heap.size ≤ q) [] := ⟨fun i j p q h => by simp at h, fun k q h => by simp at h⟩
  have hl := lv_entry ([.ref b]) (n := 4) (Nat.le_of_ble_eq_true rfl)
  rw [lg_entry_eq]
  generalize (lg_sl ([.ref b]) ++ List.replicate (4 - (lg_sl ([.ref b])).length) Slot.unset).toArray = ls at hl ⊢
  have hl : lv_has ls 4 [(0, .ref b)] := hl
  refine va_new (ci := 0) (fs := [.null, .null, .null, .null, .null, .null, .null, .null, .null, .null, .null, .null, .null, .null, .null, .int 0, .int 0, .int 0]) (C := RX0) (T := TX0) (N := 18) hx hb hts in_X0 tyX0 tyX0_ok hown (hts _ q27) (hts _ q28) (hts _ q25) hK hP hD hS hA rfl (fun j hj => by rcases (show j = 0 ∨ j = 1 ∨ j = 2 ∨ j = 3 ∨ j = 4 ∨ j = 5 ∨ j = 6 ∨ j = 7 ∨ j = 8 ∨ j = 9 ∨ j = 10 ∨ j = 11 ∨ j = 12 ∨ j = 13 ∨ j = 14 ∨ j = 15 ∨ j = 16 ∨ j = 17 by omega) with rfl | rfl | rfl | rfl | rfl | rfl | rfl | rfl | rfl | rfl | rfl | rfl | rfl | rfl | rfl | rfl | rfl | rfl <;> rfl) (Nat.le_of_ble_eq_true rfl) (Nat.le_of_ble_eq_true rfl) dL_law_0 (fun o H hP hD hS => ?_)
  have hP : va_P D vwCl [(o, .inr (0, [.null, .null, .null, .null, .null, .null, .null, .null, .null, .null, .null, .null, .null, .null, .null, .int 0, .int 0, .int 0]))] H := hP
  have hD : va_D (fun q : Nat => s.heap.size ≤ q) [(o, .inr (0, [.null, .null, .null, .null, .null, .null, .null, .null, .null, .null, .null, .null, .null, .null, .null, .int 0, .int 0, .int 0]))] := hD
  refine W.widen (k := 1) (n := 18) (Nat.le_of_ble_eq_true rfl) (Nat.le_of_ble_eq_true rfl) ?_
  refine lv_dup hx hb dL_law_3 rfl ?_
  have hFc := va_free (wc := [(o, .inr (0, [.null, .null, .null, .null, .null, .null, .null, .null, .null, .null, .null, .null, .null, .null, .null, .int 0, .int 0, .int 0]))]) hD hS hA [0] rfl
  refine va_callv (va_runI (As := []) (rest := [.ref o]) ⟨hx, hb, hml, hown, hts⟩ (c0_new l D o H.size) (cwI 0 hts (lw_meth q31) rfl rfl rfl (hts _ q25) (hts _ q29) (hts _ q30) rfl (by decide +kernel) ⟨Nat.le_of_ble_eq_true rfl, Nat.le_of_ble_eq_true rfl⟩) ⟨fun a U g mk q => by obtain ⟨q0, q1, qP, qK, qD⟩ := q; exact ⟨q0, q1, qP, va_K.moved (u := U) (U := U.calling g mk a) (Vm.Alike.refl U.vm) qK, qD⟩, fun U hU hW => ⟨rfl, by rw [hU], by rw [hU]; exact hP, va_K.moved hW.alike hK, hD.weaken (fun _ _ _ _ => trivial)⟩⟩ rfl rfl hl.1 rfl (lv_room (Nat.le_of_ble_eq_true rfl)) dL_law_4 ⟨Nat.le_of_ble_eq_true rfl, Nat.le_of_ble_eq_true rfl⟩) hS (fun q _ h => hFc q h) hFc (fun u t H1 locs ht hvm hw1 hB hz1 hk1 hS => ?_)
  obtain ⟨dA, q, σ⟩ := u
  obtain ⟨hP1, hK1, hD1⟩ := hB
  rw [ht] at hP1
  have hK0 : va_K D vwCl (tX0 dA) s := va_K.moved hvm.symm hK1
  have hD1 := hD1.weaken (B := fun q : Nat => s.heap.size ≤ q) (fun k q _ h => hFc q.1 h)
  have hP : va_P D vwCl (wX0 dA o q σ) H1 := hP1
  have hD : va_D (fun q : Nat => s.heap.size ≤ q) (wX0 dA o q σ) := hD1
  generalize H1 = H at hP hS ⊢
  refine W.widen (k := 16) (n := 2988) (Nat.le_of_ble_eq_true rfl) (Nat.le_of_ble_eq_true rfl) ?_
  refine lv_astore_n (lv' := [(1, .ref o), (0, .ref b)]) hx hb dL_law_7 rfl hl (by decide) rfl (fun ls hl => ?_)
  refine va_new (ci := 1) (fs := [.null, .null, .null, .null, .null, .null, .int 0, .null, .int 0, .null, .null, .null, .int 0]) (C := RX1) (T := TX1) (N := 13) hx hb hts in_X1 tyX1 tyX1_ok hown (hts _ q190) (hts _ q191) (hts _ q26) hK hP hD hS hA rfl (fun j hj => by rcases (show j = 0 ∨ j = 1 ∨ j = 2 ∨ j = 3 ∨ j = 4 ∨ j = 5 ∨ j = 6 ∨ j = 7 ∨ j = 8 ∨ j = 9 ∨ j = 10 ∨ j = 11 ∨ j = 12 by omega) with rfl | rfl | rfl | rfl | rfl | rfl | rfl | rfl | rfl | rfl | rfl | rfl | rfl <;> rfl) (Nat.le_of_ble_eq_true rfl) (Nat.le_of_ble_eq_true rfl) dL_law_8 (fun o2 H hP hD hS => ?_)
  refine W.widen (k := 17) (n := 3001) (Nat.le_of_ble_eq_true rfl) (Nat.le_of_ble_eq_true rfl) ?_
  refine lv_dup hx hb dL_law_11 rfl ?_
  have hPc : va_P D vwCl [(o2, .inr (1, [.null, .null, .null, .null, .null, .null, .int 0, .null, .int 0, .null, .null, .null, .int 0]))] H := gP_right hP
  have hDc : va_D (fun q : Nat => s.heap.size ≤ q) [(o2, .inr (1, [.null, .null, .null, .null, .null, .null, .int 0, .null, .int 0, .null, .null, .null, .int 0]))] := gD_left (gD_swap hD)
  have hFc := va_free (wc := [(o2, .inr (1, [.null, .null, .null, .null, .null, .null, .int 0, .null, .int 0, .null, .null, .null, .int 0]))]) hDc hS hA [0] rfl
  refine va_callv (va_runI (As := []) (rest := [.ref o2]) ⟨hx, hb, hml, hown, hts⟩ (c1_new l D o2 H.size) (cwI 0 hts (lw_meth q194) rfl rfl rfl (hts _ q26) (hts _ q192) (hts _ q193) rfl (by decide +kernel) ⟨Nat.le_of_ble_eq_true rfl, Nat.le_of_ble_eq_true rfl⟩) ⟨fun a U g mk q => by obtain ⟨q0, q1, qP, qK, qD⟩ := q; exact ⟨q0, q1, qP, va_K.moved (u := U) (U := U.calling g mk a) (Vm.Alike.refl U.vm) qK, qD⟩, fun U hU hW => ⟨rfl, by rw [hU], by rw [hU]; exact hPc, va_K.moved hW.alike hK, hDc.weaken (fun _ _ _ _ => trivial)⟩⟩ rfl rfl hl.1 rfl (lv_room (Nat.le_of_ble_eq_true rfl)) dL_law_12 ⟨Nat.le_of_ble_eq_true rfl, Nat.le_of_ble_eq_true rfl⟩) hS (fun q _ h => hFc q h) hFc (fun u t H1 locs ht hvm hw2 hB hz1 hk1 hS => ?_)
  obtain ⟨dB, q2, τ⟩ := u
  obtain ⟨hP1, hK1, hD1⟩ := hB
  rw [ht] at hP1
  have hK1 : va_K D vwCl (tX1 dB) s := va_K.moved hvm.symm hK1
  obtain ⟨hP, hD⟩ := va_join (wc := [(o2, .inr (1, [.null, .null, .null, .null, .null, .null, .int 0, .null, .int 0, .null, .null, .null, .int 0]))]) (wr := wX0 dA o q σ) (w1 := wX1 dB o2 q2 τ) hP hD [16] [0, 1, 2, 3, 4, 5, 6, 7, 8, 9, 10, 11, 12, 13, 14, 15] rfl rfl (by decide) (by decide) hk1 hFc hP1 hD1
  generalize H1 = H at hP hS ⊢
  refine W.widen (k := 27) (n := 3563) (Nat.le_of_ble_eq_true rfl) (Nat.le_of_ble_eq_true rfl) ?_
  refine lv_astore_n (lv' := [(2, .ref o2), (1, .ref o), (0, .ref b)]) hx hb dL_law_15 rfl hl (by decide) rfl (fun ls hl => ?_)
  refine lv_iconst (v := 0) hx hb dL_law_16 (by decide) ?_
  refine lv_istore_n (lv' := [(3, .int 0), (2, .ref o2), (1, .ref o), (0, .ref b)]) hx hb dL_law_17 rfl hl (by decide) rfl (fun ls hl => ?_)
  have hJ : Jv τ σ 0 := by
    obtain ⟨x1, x2, x3, x4, x5, x6⟩ := hw1
    obtain ⟨y1, y2, y3, y4, y5⟩ := hw2
    have x1 : σ 12 = ipile 60 (fun _ => 0) := x1
    have x2 : σ 4 = zst 60 (fun _ => 0) := x2
    have x6 : Ex [4, 12, 15, 16, 17] (fun _ _ => 0) σ := x6
    have y1 : τ 5 = ipile 60 (fun _ => 0) := y1
    have y2 : τ 4 = zst 60 (fun _ => 0) := y2
    have y3 : τ 6 = fun _ => 60 := y3
    have y4 : τ 8 = fun _ => 0 := y4
    have y5 : Ex [4, 5, 6, 8] (fun _ _ => 0) τ := y5
    have hz : Bd (fun _ => (0 : Int32)) := fun i _ => Or.inr (vp0 (by decide) (by decide))
    exact J_init (x1.trans y1.symm) (fun j hj => by rw [y1]; exact ipile_at hj) (fun j hj => by rw [y2]; exact zst_at hj) (fun j hj => by rw [x2]; exact zst_at hj) ((x6 0 (by decide)).trans (y5 0 (by decide)).symm) ((x6 1 (by decide)).trans (y5 1 (by decide)).symm) ((x6 2 (by decide)).trans (y5 2 (by decide)).symm) ((x6 3 (by decide)).trans (y5 3 (by decide)).symm) ((x6 6 (by decide)).trans (y5 7 (by decide)).symm) x3 x4 x5 (by rw [y3]) (by rw [y4]) (by rw [y5 1 (by decide)]; exact hz) (by rw [y5 2 (by decide)]; exact hz)
  exact law_loop l C1 hK0 hK1 hL 513 0 τ σ τ H locs ls rfl (Nat.zero_le _) hJ (fun _ _ => rfl) ⟨hP, hD, hS⟩ (lv_sub hl [3, 2, 1, 0] rfl)
end
section
set_option maxHeartbeats 4000000 in
theorem lw_walk (l : Launch) (b : Addr) (xs : List Int32) : MetFree l x (headSpec (Jvm.Cond.code x code maxLocals ret :: tables_1) room_1) (lw_P b xs) (fun _ _ _ _ _ => True) lw_Q := by
  refine MetFree.of_bodyS (code := code) (maxLocals := maxLocals) (ret := ret) (by decide) ?_ ?_
  · intro args s m h hn
    obtain ⟨meth, c, h1, h2, h3, h4, h5, h6, -, -⟩ := Cond.code_spec hn (atoms_spec (ws := Jvm.Cond.code x code maxLocals ret :: tables_1) h _ List.mem_cons_self)
    exact ⟨meth, c, h1, h2, h3, h4, h5, h6⟩
  · intro p e s m args below meth c s₁ B hml0 hP _
    obtain ⟨rfl, hx, hbd, hgv⟩ := hP
    obtain ⟨scr, harrAt, hlist, hof, hsmall⟩ := hx
    obtain ⟨hcb, hkn, -, -⟩ := State.arrayAt?_spec harrAt
    have hown : s.vm.findClass R_law = some m.cls := findClass_of_methodNamed B.named
    have hts0 : ∀ c ∈ (Jvm.Cond.code x code maxLocals ret :: tables_1), c.before #[Value.ref b] s = true := atoms_spec (ws := Jvm.Cond.code x code maxLocals ret :: tables_1) B.pre
    have hts : ∀ w ∈ lw_tbl, w.before #[Value.ref b] s = true := k2_hts_sels lw_privs (fun w hw => hts0 w (List.mem_cons_of_mem _ hw)) lw_privs_ok
    have hml : c.maxLocals = 4 := B.maxLocals_eq (hts0 _ List.mem_cons_self)
    have X₀ : Stand p l e room_1 s m #[Value.ref b] below meth c s₁ [] 0 0 := Stand.of_body B
    have hh0 : s₁.heap = s.heap := by rw [B.state]; rfl
    have hsz : scr.slots.size = xs.length := by rw [← Array.length_toList, hlist, List.length_map]
    have hval : ∀ j : Nat, j < xs.length → scr.slots[j]? = some (.int (xs.getD j 0)) := fun j hj => by
      rw [← Array.getElem?_toList, hlist]
      simp [hj]
    have hbl : b < s.heap.size := (Array.getElem?_eq_some_iff.mp hcb).1
    have hX : va_X b xs.length (fun j => xs.getD j 0) s s.heap := ⟨scr, hcb, hof, hkn, hsz, hval⟩
    have K : W p l e room_1 s m #[Value.ref b] below meth c s₁.heap [] 0 0 (lw_Z below #[Value.ref b] s) (entryFrame m ([Value.ref b] : List Value).toArray 4) := by
      rw [hh0]
      exact whole_start l hbd ⟨B.exec, B.bytes, B.returns, hml, hown, hts, hX, hbl, B.notSynchronized, hgv⟩
    obtain ⟨t, a1, o, b1, b2, b3⟩ := K s₁ rfl X₀
    exact ⟨t, o, a1, b1, b2, b3⟩
theorem lw_pre_spec {args : Array Value} {s : State} (h : (Jvm.Cond.and given_1 narrow_1).before args s = true) (hr : rest_1_c.before args s = true) : ∃ (b : Addr) (xs : List Int32), lw_P b xs args s := by
  have hs := flat_of_before _ h
  have hq := flat_of_before _ hr
  have hc : (Cond.count 1).before args s = true := hs _ (by decide +kernel)
  have harr : (Cond.arrayOf (.arg 0) .int).before args s = true := hs _ (by decide +kernel)
  have hle : (Cond.le (.length (.arg 0)) (.int 1536)).before args s = true := hs _ (by decide +kernel)
  have hlen : (Cond.isInt (.length (.arg 0))).before args s = true := hq _ (by decide +kernel)
  have hall : (Cond.all (.arg 0) (.isInt (.elem (.arg 0) (.index 0)))).before args s = true := hq _ (by decide +kernel)
  obtain ⟨b, xs, hb, hx⟩ := State.ints_of_pre rfl harr hlen hall
  have hsm : xs.length < 2 ^ 31 := hx.choose_spec.2.2.2
  have hev : (Term.length (.arg 0)).eval args s none [] s = some (.int xs.length.toInt32) := hx.length_eval hb
  have hv := Cond.le_ints hev (show (Term.int 1536).eval args s none [] s = some (.int 1536) from rfl)
  have hd : xs.length.toInt32 ≤ 1536 := by
    simpa [Cond.before, Cond.holds, hv] using hle
  have hN : xs.length ≤ 1536 := (Int32.ofNat_le_ofNat hsm (by decide)).mp (show Int32.ofNat xs.length ≤ Int32.ofNat 1536 from hd)
  exact ⟨b, xs, Cond.one_arg hc (show args[0]? = some (.ref b) from hb), hx, hN, h⟩
theorem lw_comes (l : Launch) : Comes l x (Jvm.Cond.code x code maxLocals ret :: tables_1) room_1 (fun tb e args s => Calls_1 tb e args s ∧ rest_1 tb e args s ∧ Pre_1 tb e args s)
    (fun _ _ args s o t => lw_Q args s o t) := by
  intro p e ha hc hk s m args below hf hfit hheap happ hpre
  obtain ⟨b, xs, hP⟩ := lw_pre_spec hpre.2.2 hpre.2.1
  obtain ⟨k, o, h1, h2, h3, hQ⟩ := lw_walk l b xs p e ha hc hk s m args below hf ((Spec.applies_iff_loose hf).mp happ).1 hP trivial
  exact ⟨k, o, h1, h2, h3, hQ⟩
theorem lw_frame {s t : State} {o : Outcome} {args : Array Value} (h : Framed s o t [] 600000 7290000) :
    Framed s o t (fieldLocs frame_1_writes args s ++ arrayLocs frame_1_arrays args s ++ staticLocs frame_1_statics s) 600000 7290000 := h
theorem lw_limb (L : Cond) (hL : ∀ (args : Array Value) (s t : State), L.after args s (.returned (some (.int 1))) t = true) :
    ArmFor flags0 classFile x code maxLocals ret World_1 tables_1 room_1 Calls_1 rest_1 Pre_1
      (fun tb e a s o t => postC L tb e a s o t ∧ Framed s o t (fieldLocs frame_1_writes a s ++ arrayLocs frame_1_arrays a s ++ staticLocs frame_1_statics s) 600000 7290000) := by
  intro l _ _ _ p e ha hc hk s m args below hf hfit hheap happ hpre
  obtain ⟨k, o, h1, h2, h3, rfl, hF⟩ := lw_comes l p e ha hc hk s m args below hf hfit hheap happ hpre
  exact ⟨k, _, h1, h2, h3, hL args s _, lw_frame hF⟩
theorem i_vc : Claimed_1_1 ∧ Claimed_1_2 := ⟨lw_limb limb_1_1 (fun args s t => by simp [limb_1_1, Cond.after, Cond.holds, Cond.value]), lw_limb limb_1_2 (fun args s t => Cond.after_iff.mpr (by
  first | (rw [show limb_1_2 = Cond.eq .result (.int 1) from rfl, Cond.eq_ints (x := 1) (y := 1) rfl rfl]; simp; done) | (simp [limb_1_2, Cond.value, Term.eval]; done)))⟩
end
