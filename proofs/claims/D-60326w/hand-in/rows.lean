section
-- ===== PART A: goes FIRST, ahead of the names: the tables' words, and 'selects' of the private methods out of them =====
/-- a private method of a class that the tables say can be made, by its rows of tables_1 -/
def lw_okq (q : MethodName × Nat) : Prop := (q.1.cls ≠ "java/lang/invoke/MethodHandle" ∧ q.1.cls ≠ "java/lang/invoke/VarHandle") ∧ Cond.instantiable q.1.cls q.2 ∈ tables_1 ∧ Cond.privateMethod q.1 ∈ tables_1 ∧ Cond.instanceMethod q.1 ∈ tables_1
set_option maxRecDepth 100000
theorem lw_p0 : lw_okq (⟨"GroupAllocator", "isOrder", "(I)Z"⟩, 5) := ⟨⟨by decide +kernel, by decide +kernel⟩, List.mem_of_getElem? (i := 4) rfl, List.mem_of_getElem? (i := 34) rfl, List.mem_of_getElem? (i := 35) rfl⟩
theorem lw_p1 : lw_okq (⟨"GroupAllocator", "isBlock", "(I)Z"⟩, 5) := ⟨⟨by decide +kernel, by decide +kernel⟩, List.mem_of_getElem? (i := 4) rfl, List.mem_of_getElem? (i := 38) rfl, List.mem_of_getElem? (i := 39) rfl⟩
theorem lw_p2 : lw_okq (⟨"GroupAllocator", "search", "(III)Z"⟩, 5) := ⟨⟨by decide +kernel, by decide +kernel⟩, List.mem_of_getElem? (i := 4) rfl, List.mem_of_getElem? (i := 42) rfl, List.mem_of_getElem? (i := 43) rfl⟩
theorem lw_p3 : lw_okq (⟨"GroupAllocator", "occupy", "(II)I"⟩, 5) := ⟨⟨by decide +kernel, by decide +kernel⟩, List.mem_of_getElem? (i := 4) rfl, List.mem_of_getElem? (i := 46) rfl, List.mem_of_getElem? (i := 47) rfl⟩
theorem lw_p4 : lw_okq (⟨"GroupAllocator", "carve", "(III)V"⟩, 5) := ⟨⟨by decide +kernel, by decide +kernel⟩, List.mem_of_getElem? (i := 4) rfl, List.mem_of_getElem? (i := 50) rfl, List.mem_of_getElem? (i := 51) rfl⟩
theorem lw_p5 : lw_okq (⟨"GroupAllocator", "freeOrderAround", "(II)I"⟩, 5) := ⟨⟨by decide +kernel, by decide +kernel⟩, List.mem_of_getElem? (i := 4) rfl, List.mem_of_getElem? (i := 54) rfl, List.mem_of_getElem? (i := 55) rfl⟩
theorem lw_p6 : lw_okq (⟨"GroupAllocator", "isFreeRun", "(III)Z"⟩, 5) := ⟨⟨by decide +kernel, by decide +kernel⟩, List.mem_of_getElem? (i := 4) rfl, List.mem_of_getElem? (i := 62) rfl, List.mem_of_getElem? (i := 63) rfl⟩
theorem lw_p7 : lw_okq (⟨"GroupAllocator", "isExtent", "(I)Z"⟩, 5) := ⟨⟨by decide +kernel, by decide +kernel⟩, List.mem_of_getElem? (i := 4) rfl, List.mem_of_getElem? (i := 70) rfl, List.mem_of_getElem? (i := 71) rfl⟩
theorem lw_p8 : lw_okq (⟨"GroupAllocator", "giveBack", "(III)V"⟩, 5) := ⟨⟨by decide +kernel, by decide +kernel⟩, List.mem_of_getElem? (i := 4) rfl, List.mem_of_getElem? (i := 74) rfl, List.mem_of_getElem? (i := 75) rfl⟩
theorem lw_p9 : lw_okq (⟨"GroupAllocator", "freeIn", "(II)I"⟩, 5) := ⟨⟨by decide +kernel, by decide +kernel⟩, List.mem_of_getElem? (i := 4) rfl, List.mem_of_getElem? (i := 94) rfl, List.mem_of_getElem? (i := 95) rfl⟩
theorem lw_p10 : lw_okq (⟨"GroupAllocatorModel", "isOrder", "(I)Z"⟩, 3) := ⟨⟨by decide +kernel, by decide +kernel⟩, List.mem_of_getElem? (i := 113) rfl, List.mem_of_getElem? (i := 133) rfl, List.mem_of_getElem? (i := 134) rfl⟩
theorem lw_p11 : lw_okq (⟨"GroupAllocatorModel", "isBlock", "(I)Z"⟩, 3) := ⟨⟨by decide +kernel, by decide +kernel⟩, List.mem_of_getElem? (i := 113) rfl, List.mem_of_getElem? (i := 137) rfl, List.mem_of_getElem? (i := 138) rfl⟩
theorem lw_p12 : lw_okq (⟨"GroupAllocatorModel", "search", "(III)I"⟩, 3) := ⟨⟨by decide +kernel, by decide +kernel⟩, List.mem_of_getElem? (i := 113) rfl, List.mem_of_getElem? (i := 141) rfl, List.mem_of_getElem? (i := 142) rfl⟩
theorem lw_p13 : lw_okq (⟨"GroupAllocatorModel", "isRun", "(II)Z"⟩, 3) := ⟨⟨by decide +kernel, by decide +kernel⟩, List.mem_of_getElem? (i := 113) rfl, List.mem_of_getElem? (i := 145) rfl, List.mem_of_getElem? (i := 146) rfl⟩
theorem lw_p14 : lw_okq (⟨"GroupAllocatorModel", "free", "(II)Z"⟩, 3) := ⟨⟨by decide +kernel, by decide +kernel⟩, List.mem_of_getElem? (i := 113) rfl, List.mem_of_getElem? (i := 149) rfl, List.mem_of_getElem? (i := 150) rfl⟩
theorem lw_p15 : lw_okq (⟨"GroupAllocatorModel", "make", "(II)I"⟩, 3) := ⟨⟨by decide +kernel, by decide +kernel⟩, List.mem_of_getElem? (i := 113) rfl, List.mem_of_getElem? (i := 153) rfl, List.mem_of_getElem? (i := 154) rfl⟩
def lw_privs_1 : List (MethodName × Nat) := [(⟨"GroupAllocator", "isOrder", "(I)Z"⟩, 5), (⟨"GroupAllocator", "isBlock", "(I)Z"⟩, 5), (⟨"GroupAllocator", "search", "(III)Z"⟩, 5), (⟨"GroupAllocator", "occupy", "(II)I"⟩, 5), (⟨"GroupAllocator", "carve", "(III)V"⟩, 5), (⟨"GroupAllocator", "freeOrderAround", "(II)I"⟩, 5), (⟨"GroupAllocator", "isFreeRun", "(III)Z"⟩, 5), (⟨"GroupAllocator", "isExtent", "(I)Z"⟩, 5), (⟨"GroupAllocator", "giveBack", "(III)V"⟩, 5), (⟨"GroupAllocator", "freeIn", "(II)I"⟩, 5), (⟨"GroupAllocatorModel", "isOrder", "(I)Z"⟩, 3), (⟨"GroupAllocatorModel", "isBlock", "(I)Z"⟩, 3), (⟨"GroupAllocatorModel", "search", "(III)I"⟩, 3), (⟨"GroupAllocatorModel", "isRun", "(II)Z"⟩, 3), (⟨"GroupAllocatorModel", "free", "(II)Z"⟩, 3), (⟨"GroupAllocatorModel", "make", "(II)I"⟩, 3)]
theorem lw_r1 : ∀ q ∈ lw_privs_1, lw_okq q := List.forall_mem_cons.mpr ⟨lw_p0, List.forall_mem_cons.mpr ⟨lw_p1, List.forall_mem_cons.mpr ⟨lw_p2, List.forall_mem_cons.mpr ⟨lw_p3, List.forall_mem_cons.mpr ⟨lw_p4, List.forall_mem_cons.mpr ⟨lw_p5, List.forall_mem_cons.mpr ⟨lw_p6, List.forall_mem_cons.mpr ⟨lw_p7, List.forall_mem_cons.mpr ⟨lw_p8, List.forall_mem_cons.mpr ⟨lw_p9, List.forall_mem_cons.mpr ⟨lw_p10, List.forall_mem_cons.mpr ⟨lw_p11, List.forall_mem_cons.mpr ⟨lw_p12, List.forall_mem_cons.mpr ⟨lw_p13, List.forall_mem_cons.mpr ⟨lw_p14, List.forall_mem_cons.mpr ⟨lw_p15, fun _ h => absurd h List.not_mem_nil⟩⟩⟩⟩⟩⟩⟩⟩⟩⟩⟩⟩⟩⟩⟩⟩
theorem lw_p16 : lw_okq (⟨"GroupAllocatorModel", "fill", "(III)V"⟩, 3) := ⟨⟨by decide +kernel, by decide +kernel⟩, List.mem_of_getElem? (i := 113) rfl, List.mem_of_getElem? (i := 157) rfl, List.mem_of_getElem? (i := 158) rfl⟩
theorem lw_p17 : lw_okq (⟨"GroupAllocatorModel", "isExtent", "(I)Z"⟩, 3) := ⟨⟨by decide +kernel, by decide +kernel⟩, List.mem_of_getElem? (i := 113) rfl, List.mem_of_getElem? (i := 169) rfl, List.mem_of_getElem? (i := 170) rfl⟩
theorem lw_p18 : lw_okq (⟨"GroupAllocatorModel", "isGroup", "(I)Z"⟩, 3) := ⟨⟨by decide +kernel, by decide +kernel⟩, List.mem_of_getElem? (i := 113) rfl, List.mem_of_getElem? (i := 189) rfl, List.mem_of_getElem? (i := 190) rfl⟩
def lw_privs_2 : List (MethodName × Nat) := [(⟨"GroupAllocatorModel", "fill", "(III)V"⟩, 3), (⟨"GroupAllocatorModel", "isExtent", "(I)Z"⟩, 3), (⟨"GroupAllocatorModel", "isGroup", "(I)Z"⟩, 3)]
theorem lw_r2 : ∀ q ∈ lw_privs_2, lw_okq q := List.forall_mem_cons.mpr ⟨lw_p16, List.forall_mem_cons.mpr ⟨lw_p17, List.forall_mem_cons.mpr ⟨lw_p18, fun _ h => absurd h List.not_mem_nil⟩⟩⟩
def lw_privs : List (MethodName × Nat) := lw_privs_1 ++ (lw_privs_2)
def lw_tbl : List Cond := k2_sels lw_privs ++ tables_1
theorem lw_privs_ok : ∀ q ∈ lw_privs, lw_okq q := by
  show ∀ q ∈ lw_privs_1 ++ (lw_privs_2), lw_okq q
  exact List.forall_mem_append.mpr ⟨lw_r1, lw_r2⟩
-- ===== ONE list of words for every method: the tables' words that hold all through a run =====
def lw_all : List Cond := lw_tbl.filter goodWord
/-- a word of the tables by its place: claim/WORDS.tsv -/
theorem lw_w {w : Cond} (i : Nat) (h : lw_tbl[i]? = some w) (g : goodWord w = true) : w ∈ lw_all := List.mem_filter.mpr ⟨List.mem_of_getElem? h, g⟩
theorem lw_all_tbl {w : Cond} (h : w ∈ lw_all) : w ∈ lw_tbl := (List.mem_filter.mp h).1
theorem lw_self : GoodIn lw_all lw_all := fun w h => ⟨h, good_of_word (List.mem_filter.mp h).2⟩
/-- a class's field words, by their places -/
theorem lw_in (ws : List Cond) (ps : List Nat) (hp : ws = ps.filterMap (fun i => lw_tbl[i]?)) (hg : ws.all goodWord = true) : ∀ w ∈ ws, w ∈ lw_all := by
  intro w h
  have h1 := List.all_eq_true.mp hg w h
  rw [hp] at h
  obtain ⟨i, -, hi⟩ := List.mem_filterMap.mp h
  exact lw_w i hi h1
/-- the words of a contract for the method y with code b, L locals, answer r -/
abbrev ws_ (y : MethodName) (b : ByteArray) (L : Nat) (r : Option FieldType) : List Cond := Cond.code y b L r :: lw_all
theorem lw_meth {y : MethodName} {b : ByteArray} {L : Nat} {r : Option FieldType} (h : Cond.code y b L r ∈ lw_all) : GoodIn lw_all (ws_ y b L r) := by
  intro w hw
  rcases List.mem_cons.mp hw with e | e
  · rw [e]
    exact lw_self _ h
  · exact lw_self _ e
theorem lw_app {a c : List Cond} (ha : ∀ w ∈ a, w ∈ lw_all) (hc : GoodIn lw_all c) : GoodIn lw_all (a ++ c) := by
  intro w hw
  rcases List.mem_append.mp hw with e | e
  · exact lw_self w (ha w e)
  · exact hc w e
/-- what a call through an object asks: cwV n hts (lw_V ..) -/
theorem lw_V {own : String} {idx : Nat} {C : String} {y : MethodName} {b : ByteArray} {L : Nat} {r : Option FieldType} (h1 : Cond.methodLink own idx y ∈ lw_all) (h2 : Cond.instanceMethod y ∈ lw_all) (h3 : Cond.selects C y y ∈ lw_all) (h4 : Cond.initialized C ∈ lw_all) (h5 : Cond.code y b L r ∈ lw_all) : GoodIn lw_all (wsV own idx C y (ws_ y b L r)) := by
  refine lw_app ?_ (lw_meth h5)
  intro w hw
  simp only [List.mem_cons, List.not_mem_nil, or_false] at hw
  rcases hw with e | e | e | e
  · rw [e]; exact h1
  · rw [e]; exact h2
  · rw [e]; exact h3
  · rw [e]; exact h4
/-- what a static call asks: va_cwS n hts (lw_S ..) -/
theorem lw_S {own : String} {idx : Nat} {y : MethodName} {b : ByteArray} {L : Nat} {r : Option FieldType} (h1 : Cond.methodLink own idx y ∈ lw_all) (h2 : Cond.static y ∈ lw_all) (h3 : Cond.initialized y.cls ∈ lw_all) (h4 : Cond.code y b L r ∈ lw_all) : GoodIn lw_all (va_wsS own idx y (ws_ y b L r)) := by
  refine lw_app ?_ (lw_meth h4)
  intro w hw
  simp only [List.mem_cons, List.not_mem_nil, or_false] at hw
  rcases hw with e | e | e
  · rw [e]; exact h1
  · rw [e]; exact h2
  · rw [e]; exact h3
/-- the words of a contract for a method WITH HANDLERS (hh: its table) -/
abbrev wsW_ (y : MethodName) (b : ByteArray) (L : Nat) (r : Option FieldType) (hh : List (Nat × Nat × Nat × Nat)) : List Cond := Cond.codeWith y b L r hh :: lw_all
theorem lw_methW {y : MethodName} {b : ByteArray} {L : Nat} {r : Option FieldType} {hh : List (Nat × Nat × Nat × Nat)} (h : Cond.codeWith y b L r hh ∈ lw_all) : GoodIn lw_all (wsW_ y b L r hh) := by
  intro w hw
  rcases List.mem_cons.mp hw with e | e
  · rw [e]
    exact lw_self _ h
  · exact lw_self _ e
/-- any list of words by their places (lw_in), good -/
theorem lw_good {ws : List Cond} (h : ∀ w ∈ ws, w ∈ lw_all) : GoodIn lw_all ws := fun w hw => lw_self w (h w hw)
/-- what a call of a method with handlers asks: vx_cwVW n hts (lw_VW ..), vx_cwSW n hts (lw_SW ..) -/
theorem lw_VW {own : String} {idx : Nat} {C : String} {y : MethodName} {b : ByteArray} {L : Nat} {r : Option FieldType} {hh : List (Nat × Nat × Nat × Nat)} (h1 : Cond.methodLink own idx y ∈ lw_all) (h2 : Cond.instanceMethod y ∈ lw_all) (h3 : Cond.selects C y y ∈ lw_all) (h4 : Cond.initialized C ∈ lw_all) (h5 : Cond.codeWith y b L r hh ∈ lw_all) : GoodIn lw_all (wsV own idx C y (wsW_ y b L r hh)) := by
  refine lw_app ?_ (lw_methW h5)
  intro w hw
  simp only [List.mem_cons, List.not_mem_nil, or_false] at hw
  rcases hw with e | e | e | e
  · rw [e]; exact h1
  · rw [e]; exact h2
  · rw [e]; exact h3
  · rw [e]; exact h4
theorem lw_SW {own : String} {idx : Nat} {y : MethodName} {b : ByteArray} {L : Nat} {r : Option FieldType} {hh : List (Nat × Nat × Nat × Nat)} (h1 : Cond.methodLink own idx y ∈ lw_all) (h2 : Cond.static y ∈ lw_all) (h3 : Cond.initialized y.cls ∈ lw_all) (h4 : Cond.codeWith y b L r hh ∈ lw_all) : GoodIn lw_all (va_wsS own idx y (wsW_ y b L r hh)) := by
  refine lw_app ?_ (lw_methW h4)
  intro w hw
  simp only [List.mem_cons, List.not_mem_nil, or_false] at hw
  rcases hw with e | e | e
  · rw [e]; exact h1
  · rw [e]; exact h2
  · rw [e]; exact h3
/-- a word by its place in its run of the tables -/
theorem lw_at {r : List Cond} (hr : ∀ w ∈ r, w ∈ lw_tbl) {w : Cond} (i : Nat) (h : r[i]? = some w) : w ∈ lw_tbl := hr w (List.mem_of_getElem? h)
theorem lw_g {w : Cond} (h : w ∈ lw_tbl) (g : goodWord w = true) : w ∈ lw_all := List.mem_filter.mpr ⟨h, g⟩
theorem lw_ms : ∀ w ∈ k2_sels lw_privs, w ∈ lw_tbl := fun w h => show w ∈ k2_sels lw_privs ++ tables_1 from List.mem_append_left _ h
theorem lw_m0 : ∀ w ∈ tables_1, w ∈ lw_tbl := fun w h => show w ∈ k2_sels lw_privs ++ tables_1 from List.mem_append_right (k2_sels lw_privs) h
theorem qs0 : (Cond.selects "GroupAllocator" ⟨"GroupAllocator", "isOrder", "(I)Z"⟩ ⟨"GroupAllocator", "isOrder", "(I)Z"⟩) ∈ lw_all := lw_g (lw_at lw_ms 0 rfl) rfl
theorem qs1 : (Cond.selects "GroupAllocator" ⟨"GroupAllocator", "isBlock", "(I)Z"⟩ ⟨"GroupAllocator", "isBlock", "(I)Z"⟩) ∈ lw_all := lw_g (lw_at lw_ms 1 rfl) rfl
theorem qs2 : (Cond.selects "GroupAllocator" ⟨"GroupAllocator", "search", "(III)Z"⟩ ⟨"GroupAllocator", "search", "(III)Z"⟩) ∈ lw_all := lw_g (lw_at lw_ms 2 rfl) rfl
theorem qs3 : (Cond.selects "GroupAllocator" ⟨"GroupAllocator", "occupy", "(II)I"⟩ ⟨"GroupAllocator", "occupy", "(II)I"⟩) ∈ lw_all := lw_g (lw_at lw_ms 3 rfl) rfl
theorem qs4 : (Cond.selects "GroupAllocator" ⟨"GroupAllocator", "carve", "(III)V"⟩ ⟨"GroupAllocator", "carve", "(III)V"⟩) ∈ lw_all := lw_g (lw_at lw_ms 4 rfl) rfl
theorem qs5 : (Cond.selects "GroupAllocator" ⟨"GroupAllocator", "freeOrderAround", "(II)I"⟩ ⟨"GroupAllocator", "freeOrderAround", "(II)I"⟩) ∈ lw_all := lw_g (lw_at lw_ms 5 rfl) rfl
theorem qs6 : (Cond.selects "GroupAllocator" ⟨"GroupAllocator", "isFreeRun", "(III)Z"⟩ ⟨"GroupAllocator", "isFreeRun", "(III)Z"⟩) ∈ lw_all := lw_g (lw_at lw_ms 6 rfl) rfl
theorem qs7 : (Cond.selects "GroupAllocator" ⟨"GroupAllocator", "isExtent", "(I)Z"⟩ ⟨"GroupAllocator", "isExtent", "(I)Z"⟩) ∈ lw_all := lw_g (lw_at lw_ms 7 rfl) rfl
theorem qs8 : (Cond.selects "GroupAllocator" ⟨"GroupAllocator", "giveBack", "(III)V"⟩ ⟨"GroupAllocator", "giveBack", "(III)V"⟩) ∈ lw_all := lw_g (lw_at lw_ms 8 rfl) rfl
theorem qs9 : (Cond.selects "GroupAllocator" ⟨"GroupAllocator", "freeIn", "(II)I"⟩ ⟨"GroupAllocator", "freeIn", "(II)I"⟩) ∈ lw_all := lw_g (lw_at lw_ms 9 rfl) rfl
theorem qs10 : (Cond.selects "GroupAllocatorModel" ⟨"GroupAllocatorModel", "isOrder", "(I)Z"⟩ ⟨"GroupAllocatorModel", "isOrder", "(I)Z"⟩) ∈ lw_all := lw_g (lw_at lw_ms 10 rfl) rfl
theorem qs11 : (Cond.selects "GroupAllocatorModel" ⟨"GroupAllocatorModel", "isBlock", "(I)Z"⟩ ⟨"GroupAllocatorModel", "isBlock", "(I)Z"⟩) ∈ lw_all := lw_g (lw_at lw_ms 11 rfl) rfl
theorem qs12 : (Cond.selects "GroupAllocatorModel" ⟨"GroupAllocatorModel", "search", "(III)I"⟩ ⟨"GroupAllocatorModel", "search", "(III)I"⟩) ∈ lw_all := lw_g (lw_at lw_ms 12 rfl) rfl
theorem qs13 : (Cond.selects "GroupAllocatorModel" ⟨"GroupAllocatorModel", "isRun", "(II)Z"⟩ ⟨"GroupAllocatorModel", "isRun", "(II)Z"⟩) ∈ lw_all := lw_g (lw_at lw_ms 13 rfl) rfl
theorem qs14 : (Cond.selects "GroupAllocatorModel" ⟨"GroupAllocatorModel", "free", "(II)Z"⟩ ⟨"GroupAllocatorModel", "free", "(II)Z"⟩) ∈ lw_all := lw_g (lw_at lw_ms 14 rfl) rfl
theorem qs15 : (Cond.selects "GroupAllocatorModel" ⟨"GroupAllocatorModel", "make", "(II)I"⟩ ⟨"GroupAllocatorModel", "make", "(II)I"⟩) ∈ lw_all := lw_g (lw_at lw_ms 15 rfl) rfl
theorem qs16 : (Cond.selects "GroupAllocatorModel" ⟨"GroupAllocatorModel", "fill", "(III)V"⟩ ⟨"GroupAllocatorModel", "fill", "(III)V"⟩) ∈ lw_all := lw_g (lw_at lw_ms 16 rfl) rfl
theorem qs17 : (Cond.selects "GroupAllocatorModel" ⟨"GroupAllocatorModel", "isExtent", "(I)Z"⟩ ⟨"GroupAllocatorModel", "isExtent", "(I)Z"⟩) ∈ lw_all := lw_g (lw_at lw_ms 17 rfl) rfl
theorem qs18 : (Cond.selects "GroupAllocatorModel" ⟨"GroupAllocatorModel", "isGroup", "(I)Z"⟩ ⟨"GroupAllocatorModel", "isGroup", "(I)Z"⟩) ∈ lw_all := lw_g (lw_at lw_ms 18 rfl) rfl
end
section
set_option maxRecDepth 100000
/-! java/lang/Object -/
def RJ0 : String := "java/lang/Object"
abbrev cJ0_init : ByteArray := object_method_1_code
def yJ0_init : MethodName := ⟨RJ0, "<init>", "()V"⟩
theorem dJ0_init_0 : decode cJ0_init 0 = .ok (.return_, 1) := by decide +kernel
theorem q28 : (Jvm.Cond.instanceMethod ({ cls := "java/lang/Object", name := "<init>", desc := "()V" } : Jvm.MethodName)) ∈ lw_all := lw_g (lw_at lw_m0 9 rfl) rfl
theorem q29 : (Jvm.Cond.code ({ cls := "java/lang/Object", name := "<init>", desc := "()V" } : Jvm.MethodName) object_method_1_code (1 : Nat) (Option.none : Option Jvm.ClassFile.FieldType)) ∈ lw_all := lw_g (lw_at lw_m0 10 rfl) rfl
/-! GroupAllocatorLaw -/
def RX0 : String := "GroupAllocatorLaw"
abbrev cX0_cell : ByteArray := method_2_code
def yX0_cell : MethodName := ⟨RX0, "cell", "([II)I"⟩
theorem dX0_cell_0 : decode cX0_cell 0 = .ok (.iload_n 1, 1) := by decide +kernel
theorem dX0_cell_1 : decode cX0_cell 1 = .ok (.aload_n 0, 1) := by decide +kernel
theorem dX0_cell_2 : decode cX0_cell 2 = .ok (.arraylength, 1) := by decide +kernel
theorem dX0_cell_3 : decode cX0_cell 3 = .ok (.if_icmp .ge 9, 3) := by decide +kernel
theorem dX0_cell_6 : decode cX0_cell 6 = .ok (.aload_n 0, 1) := by decide +kernel
theorem dX0_cell_7 : decode cX0_cell 7 = .ok (.iload_n 1, 1) := by decide +kernel
theorem dX0_cell_8 : decode cX0_cell 8 = .ok (.iaload, 1) := by decide +kernel
theorem dX0_cell_9 : decode cX0_cell 9 = .ok (.goto 4, 3) := by decide +kernel
theorem dX0_cell_12 : decode cX0_cell 12 = .ok (.iconst 0, 1) := by decide +kernel
theorem dX0_cell_13 : decode cX0_cell 13 = .ok (.ireturn, 1) := by decide +kernel
theorem q19 : (Jvm.Cond.initialized "GroupAllocatorLaw") ∈ lw_all := lw_g (lw_at lw_m0 0 rfl) rfl
theorem q22 : (Jvm.Cond.classLink "GroupAllocatorLaw" (7 : Nat) "GroupAllocator") ∈ lw_all := lw_g (lw_at lw_m0 3 rfl) rfl
theorem q24 : (Jvm.Cond.methodLink "GroupAllocatorLaw" (15 : Nat) ({ cls := "GroupAllocator", name := "<init>", desc := "(I)V" } : Jvm.MethodName)) ∈ lw_all := lw_g (lw_at lw_m0 5 rfl) rfl
theorem q48 : (Jvm.Cond.methodLink "GroupAllocatorLaw" (21 : Nat) ({ cls := "GroupAllocator", name := "allocate", desc := "(II)I" } : Jvm.MethodName)) ∈ lw_all := lw_g (lw_at lw_m0 29 rfl) rfl
theorem q76 : (Jvm.Cond.methodLink "GroupAllocatorLaw" (26 : Nat) ({ cls := "GroupAllocator", name := "claim", desc := "(II)I" } : Jvm.MethodName)) ∈ lw_all := lw_g (lw_at lw_m0 57 rfl) rfl
theorem q84 : (Jvm.Cond.methodLink "GroupAllocatorLaw" (30 : Nat) ({ cls := "GroupAllocator", name := "release", desc := "(I)I" } : Jvm.MethodName)) ∈ lw_all := lw_g (lw_at lw_m0 65 rfl) rfl
theorem q96 : (Jvm.Cond.methodLink "GroupAllocatorLaw" (35 : Nat) ({ cls := "GroupAllocator", name := "grow", desc := "(I)I" } : Jvm.MethodName)) ∈ lw_all := lw_g (lw_at lw_m0 77 rfl) rfl
theorem q100 : (Jvm.Cond.methodLink "GroupAllocatorLaw" (39 : Nat) ({ cls := "GroupAllocator", name := "halve", desc := "(I)I" } : Jvm.MethodName)) ∈ lw_all := lw_g (lw_at lw_m0 81 rfl) rfl
theorem q104 : (Jvm.Cond.methodLink "GroupAllocatorLaw" (43 : Nat) ({ cls := "GroupAllocator", name := "extentOf", desc := "(I)I" } : Jvm.MethodName)) ∈ lw_all := lw_g (lw_at lw_m0 85 rfl) rfl
theorem q108 : (Jvm.Cond.methodLink "GroupAllocatorLaw" (47 : Nat) ({ cls := "GroupAllocator", name := "freeBlocks", desc := "(I)I" } : Jvm.MethodName)) ∈ lw_all := lw_g (lw_at lw_m0 89 rfl) rfl
theorem q116 : (Jvm.Cond.methodLink "GroupAllocatorLaw" (51 : Nat) ({ cls := "GroupAllocator", name := "largestFree", desc := "(I)I" } : Jvm.MethodName)) ∈ lw_all := lw_g (lw_at lw_m0 97 rfl) rfl
theorem q120 : (Jvm.Cond.methodLink "GroupAllocatorLaw" (55 : Nat) ({ cls := "GroupAllocator", name := "freeRuns", desc := "(I)I" } : Jvm.MethodName)) ∈ lw_all := lw_g (lw_at lw_m0 101 rfl) rfl
theorem q124 : (Jvm.Cond.methodLink "GroupAllocatorLaw" (59 : Nat) ({ cls := "GroupAllocator", name := "extents", desc := "()I" } : Jvm.MethodName)) ∈ lw_all := lw_g (lw_at lw_m0 105 rfl) rfl
theorem q128 : (Jvm.Cond.methodLink "GroupAllocatorLaw" (9 : Nat) ({ cls := "GroupAllocatorLaw", name := "cell", desc := "([II)I" } : Jvm.MethodName)) ∈ lw_all := lw_g (lw_at lw_m0 109 rfl) rfl
theorem q129 : (Jvm.Cond.static ({ cls := "GroupAllocatorLaw", name := "cell", desc := "([II)I" } : Jvm.MethodName)) ∈ lw_all := lw_g (lw_at lw_m0 110 rfl) rfl
theorem q130 : (Jvm.Cond.code ({ cls := "GroupAllocatorLaw", name := "cell", desc := "([II)I" } : Jvm.MethodName) method_2_code (2 : Nat) (Option.some Jvm.ClassFile.FieldType.int)) ∈ lw_all := lw_g (lw_at lw_m0 111 rfl) rfl
theorem q131 : (Jvm.Cond.classLink "GroupAllocatorLaw" (18 : Nat) "GroupAllocatorModel") ∈ lw_all := lw_g (lw_at lw_m0 112 rfl) rfl
theorem q133 : (Jvm.Cond.methodLink "GroupAllocatorLaw" (20 : Nat) ({ cls := "GroupAllocatorModel", name := "<init>", desc := "(I)V" } : Jvm.MethodName)) ∈ lw_all := lw_g (lw_at lw_m0 114 rfl) rfl
theorem q147 : (Jvm.Cond.methodLink "GroupAllocatorLaw" (25 : Nat) ({ cls := "GroupAllocatorModel", name := "allocate", desc := "(II)I" } : Jvm.MethodName)) ∈ lw_all := lw_g (lw_at lw_m0 128 rfl) rfl
theorem q179 : (Jvm.Cond.methodLink "GroupAllocatorLaw" (29 : Nat) ({ cls := "GroupAllocatorModel", name := "claim", desc := "(II)I" } : Jvm.MethodName)) ∈ lw_all := lw_g (lw_at lw_m0 160 rfl) rfl
theorem q183 : (Jvm.Cond.methodLink "GroupAllocatorLaw" (34 : Nat) ({ cls := "GroupAllocatorModel", name := "release", desc := "(I)I" } : Jvm.MethodName)) ∈ lw_all := lw_g (lw_at lw_m0 164 rfl) rfl
theorem q191 : (Jvm.Cond.methodLink "GroupAllocatorLaw" (38 : Nat) ({ cls := "GroupAllocatorModel", name := "grow", desc := "(I)I" } : Jvm.MethodName)) ∈ lw_all := lw_g (lw_at lw_m0 172 rfl) rfl
theorem q195 : (Jvm.Cond.methodLink "GroupAllocatorLaw" (42 : Nat) ({ cls := "GroupAllocatorModel", name := "halve", desc := "(I)I" } : Jvm.MethodName)) ∈ lw_all := lw_g (lw_at lw_m0 176 rfl) rfl
theorem q199 : (Jvm.Cond.methodLink "GroupAllocatorLaw" (46 : Nat) ({ cls := "GroupAllocatorModel", name := "extentOf", desc := "(I)I" } : Jvm.MethodName)) ∈ lw_all := lw_g (lw_at lw_m0 180 rfl) rfl
theorem q203 : (Jvm.Cond.methodLink "GroupAllocatorLaw" (50 : Nat) ({ cls := "GroupAllocatorModel", name := "freeBlocks", desc := "(I)I" } : Jvm.MethodName)) ∈ lw_all := lw_g (lw_at lw_m0 184 rfl) rfl
theorem q211 : (Jvm.Cond.methodLink "GroupAllocatorLaw" (54 : Nat) ({ cls := "GroupAllocatorModel", name := "largestFree", desc := "(I)I" } : Jvm.MethodName)) ∈ lw_all := lw_g (lw_at lw_m0 192 rfl) rfl
theorem q215 : (Jvm.Cond.methodLink "GroupAllocatorLaw" (58 : Nat) ({ cls := "GroupAllocatorModel", name := "freeRuns", desc := "(I)I" } : Jvm.MethodName)) ∈ lw_all := lw_g (lw_at lw_m0 196 rfl) rfl
theorem q219 : (Jvm.Cond.methodLink "GroupAllocatorLaw" (63 : Nat) ({ cls := "GroupAllocatorModel", name := "extents", desc := "()I" } : Jvm.MethodName)) ∈ lw_all := lw_g (lw_at lw_m0 200 rfl) rfl
/-! GroupAllocator -/
def RX1 : String := "GroupAllocator"
def TX1 : u_T := fun k => match k with
  | 0 => ("GroupAllocator", "groupCount", "I", false)
  | 1 => ("GroupAllocator", "freeMap", "[I", true)
  | 2 => ("GroupAllocator", "orderAt", "[B", true)
  | 3 => ("GroupAllocator", "extentCount", "I", false)
  | _ => ("GroupAllocator", "foundStart", "I", false)
def tyX1 : Nat → FieldType := fun k => match k with
  | 0 => .int
  | 1 => .array .int
  | 2 => .array .byte
  | 3 => .int
  | _ => .int
abbrev wsX10 : List Cond := u_ws RX1 TX1 5
theorem nmX1 : ∀ a, a < 5 → ∀ b, b < 5 → a ≠ b → (TX1 a).2.1 ≠ (TX1 b).2.1 := by decide +kernel
theorem tyX1_ok : ∀ k, k < 5 → parseFieldDescriptor (TX1 k).2.2.1 = some (tyX1 k) := by decide +kernel
abbrev cX1_init : ByteArray := prog_1_method_1_code
def yX1_init : MethodName := ⟨RX1, "<init>", "(I)V"⟩
abbrev cX1_allocate : ByteArray := prog_1_method_2_code
def yX1_allocate : MethodName := ⟨RX1, "allocate", "(II)I"⟩
abbrev cX1_isOrder : ByteArray := prog_1_method_13_code
def yX1_isOrder : MethodName := ⟨RX1, "isOrder", "(I)Z"⟩
abbrev cX1_isBlock : ByteArray := prog_1_method_14_code
def yX1_isBlock : MethodName := ⟨RX1, "isBlock", "(I)Z"⟩
abbrev cX1_search : ByteArray := prog_1_method_17_code
def yX1_search : MethodName := ⟨RX1, "search", "(III)Z"⟩
abbrev cX1_occupy : ByteArray := prog_1_method_4_code
def yX1_occupy : MethodName := ⟨RX1, "occupy", "(II)I"⟩
abbrev cX1_carve : ByteArray := prog_1_method_20_code
def yX1_carve : MethodName := ⟨RX1, "carve", "(III)V"⟩
abbrev cX1_freeOrderAround : ByteArray := prog_1_method_18_code
def yX1_freeOrderAround : MethodName := ⟨RX1, "freeOrderAround", "(II)I"⟩
abbrev cX1_claim : ByteArray := prog_1_method_3_code
def yX1_claim : MethodName := ⟨RX1, "claim", "(II)I"⟩
abbrev cX1_isFreeRun : ByteArray := prog_1_method_19_code
def yX1_isFreeRun : MethodName := ⟨RX1, "isFreeRun", "(III)Z"⟩
abbrev cX1_release : ByteArray := prog_1_method_5_code
def yX1_release : MethodName := ⟨RX1, "release", "(I)I"⟩
abbrev cX1_isExtent : ByteArray := prog_1_method_15_code
def yX1_isExtent : MethodName := ⟨RX1, "isExtent", "(I)Z"⟩
abbrev cX1_giveBack : ByteArray := prog_1_method_21_code
def yX1_giveBack : MethodName := ⟨RX1, "giveBack", "(III)V"⟩
abbrev cX1_grow : ByteArray := prog_1_method_6_code
def yX1_grow : MethodName := ⟨RX1, "grow", "(I)I"⟩
abbrev cX1_halve : ByteArray := prog_1_method_7_code
def yX1_halve : MethodName := ⟨RX1, "halve", "(I)I"⟩
abbrev cX1_extentOf : ByteArray := prog_1_method_8_code
def yX1_extentOf : MethodName := ⟨RX1, "extentOf", "(I)I"⟩
abbrev cX1_freeBlocks : ByteArray := prog_1_method_9_code
def yX1_freeBlocks : MethodName := ⟨RX1, "freeBlocks", "(I)I"⟩
abbrev cX1_freeIn : ByteArray := prog_1_method_16_code
def yX1_freeIn : MethodName := ⟨RX1, "freeIn", "(II)I"⟩
abbrev cX1_largestFree : ByteArray := prog_1_method_10_code
def yX1_largestFree : MethodName := ⟨RX1, "largestFree", "(I)I"⟩
abbrev cX1_freeRuns : ByteArray := prog_1_method_11_code
def yX1_freeRuns : MethodName := ⟨RX1, "freeRuns", "(I)I"⟩
abbrev cX1_extents : ByteArray := prog_1_method_12_code
def yX1_extents : MethodName := ⟨RX1, "extents", "()I"⟩
theorem q20 : (Jvm.Cond.initialized "GroupAllocator") ∈ lw_all := lw_g (lw_at lw_m0 1 rfl) rfl
theorem q23 : (Jvm.Cond.instantiable "GroupAllocator" (5 : Nat)) ∈ lw_all := lw_g (lw_at lw_m0 4 rfl) rfl
theorem q25 : (Jvm.Cond.instanceMethod ({ cls := "GroupAllocator", name := "<init>", desc := "(I)V" } : Jvm.MethodName)) ∈ lw_all := lw_g (lw_at lw_m0 6 rfl) rfl
theorem q26 : (Jvm.Cond.code ({ cls := "GroupAllocator", name := "<init>", desc := "(I)V" } : Jvm.MethodName) prog_1_method_1_code (3 : Nat) (Option.none : Option Jvm.ClassFile.FieldType)) ∈ lw_all := lw_g (lw_at lw_m0 7 rfl) rfl
theorem q27 : (Jvm.Cond.methodLink "GroupAllocator" (1 : Nat) ({ cls := "java/lang/Object", name := "<init>", desc := "()V" } : Jvm.MethodName)) ∈ lw_all := lw_g (lw_at lw_m0 8 rfl) rfl
theorem q30 : (Jvm.Cond.fieldLink "GroupAllocator" (17 : Nat) "GroupAllocator" "groupCount" "I") ∈ lw_all := lw_g (lw_at lw_m0 11 rfl) rfl
theorem q31 : (Jvm.Cond.fieldLink "GroupAllocator" (7 : Nat) "GroupAllocator" "freeMap" "[I") ∈ lw_all := lw_g (lw_at lw_m0 12 rfl) rfl
theorem q32 : (Jvm.Cond.fieldLink "GroupAllocator" (13 : Nat) "GroupAllocator" "orderAt" "[B") ∈ lw_all := lw_g (lw_at lw_m0 13 rfl) rfl
theorem q33 : (Jvm.Cond.fieldLink "GroupAllocator" (46 : Nat) "GroupAllocator" "extentCount" "I") ∈ lw_all := lw_g (lw_at lw_m0 14 rfl) rfl
theorem q34 : (Jvm.Cond.fieldLink "GroupAllocator" (39 : Nat) "GroupAllocator" "foundStart" "I") ∈ lw_all := lw_g (lw_at lw_m0 15 rfl) rfl
theorem q35 : (Jvm.Cond.lays "GroupAllocator" "GroupAllocator" "groupCount" "I") ∈ lw_all := lw_g (lw_at lw_m0 16 rfl) rfl
theorem q36 : (Jvm.Cond.soleField "GroupAllocator" "groupCount") ∈ lw_all := lw_g (lw_at lw_m0 17 rfl) rfl
theorem q37 : (Jvm.Cond.laysFinal "GroupAllocator" "GroupAllocator" "freeMap" "[I") ∈ lw_all := lw_g (lw_at lw_m0 18 rfl) rfl
theorem q38 : (Jvm.Cond.soleField "GroupAllocator" "freeMap") ∈ lw_all := lw_g (lw_at lw_m0 19 rfl) rfl
theorem q39 : (Jvm.Cond.laysFinal "GroupAllocator" "GroupAllocator" "orderAt" "[B") ∈ lw_all := lw_g (lw_at lw_m0 20 rfl) rfl
theorem q40 : (Jvm.Cond.soleField "GroupAllocator" "orderAt") ∈ lw_all := lw_g (lw_at lw_m0 21 rfl) rfl
theorem q41 : (Jvm.Cond.lays "GroupAllocator" "GroupAllocator" "extentCount" "I") ∈ lw_all := lw_g (lw_at lw_m0 22 rfl) rfl
theorem q42 : (Jvm.Cond.soleField "GroupAllocator" "extentCount") ∈ lw_all := lw_g (lw_at lw_m0 23 rfl) rfl
theorem q43 : (Jvm.Cond.lays "GroupAllocator" "GroupAllocator" "foundStart" "I") ∈ lw_all := lw_g (lw_at lw_m0 24 rfl) rfl
theorem q44 : (Jvm.Cond.soleField "GroupAllocator" "foundStart") ∈ lw_all := lw_g (lw_at lw_m0 25 rfl) rfl
theorem q45 : (Jvm.Cond.superclass "GroupAllocator" "java/lang/Object") ∈ lw_all := lw_g (lw_at lw_m0 26 rfl) rfl
theorem q49 : (Jvm.Cond.instanceMethod ({ cls := "GroupAllocator", name := "allocate", desc := "(II)I" } : Jvm.MethodName)) ∈ lw_all := lw_g (lw_at lw_m0 30 rfl) rfl
theorem q50 : (Jvm.Cond.selects "GroupAllocator" ({ cls := "GroupAllocator", name := "allocate", desc := "(II)I" } : Jvm.MethodName) ({ cls := "GroupAllocator", name := "allocate", desc := "(II)I" } : Jvm.MethodName)) ∈ lw_all := lw_g (lw_at lw_m0 31 rfl) rfl
theorem q51 : (Jvm.Cond.code ({ cls := "GroupAllocator", name := "allocate", desc := "(II)I" } : Jvm.MethodName) prog_1_method_2_code (6 : Nat) (Option.some Jvm.ClassFile.FieldType.int)) ∈ lw_all := lw_g (lw_at lw_m0 32 rfl) rfl
theorem q52 : (Jvm.Cond.methodLink "GroupAllocator" (21 : Nat) ({ cls := "GroupAllocator", name := "isOrder", desc := "(I)Z" } : Jvm.MethodName)) ∈ lw_all := lw_g (lw_at lw_m0 33 rfl) rfl
theorem q53 : (Jvm.Cond.privateMethod ({ cls := "GroupAllocator", name := "isOrder", desc := "(I)Z" } : Jvm.MethodName)) ∈ lw_tbl := lw_at lw_m0 34 rfl
theorem q54 : (Jvm.Cond.instanceMethod ({ cls := "GroupAllocator", name := "isOrder", desc := "(I)Z" } : Jvm.MethodName)) ∈ lw_all := lw_g (lw_at lw_m0 35 rfl) rfl
theorem q55 : (Jvm.Cond.code ({ cls := "GroupAllocator", name := "isOrder", desc := "(I)Z" } : Jvm.MethodName) prog_1_method_13_code (2 : Nat) (Option.some Jvm.ClassFile.FieldType.boolean)) ∈ lw_all := lw_g (lw_at lw_m0 36 rfl) rfl
theorem q56 : (Jvm.Cond.methodLink "GroupAllocator" (25 : Nat) ({ cls := "GroupAllocator", name := "isBlock", desc := "(I)Z" } : Jvm.MethodName)) ∈ lw_all := lw_g (lw_at lw_m0 37 rfl) rfl
theorem q57 : (Jvm.Cond.privateMethod ({ cls := "GroupAllocator", name := "isBlock", desc := "(I)Z" } : Jvm.MethodName)) ∈ lw_tbl := lw_at lw_m0 38 rfl
theorem q58 : (Jvm.Cond.instanceMethod ({ cls := "GroupAllocator", name := "isBlock", desc := "(I)Z" } : Jvm.MethodName)) ∈ lw_all := lw_g (lw_at lw_m0 39 rfl) rfl
theorem q59 : (Jvm.Cond.code ({ cls := "GroupAllocator", name := "isBlock", desc := "(I)Z" } : Jvm.MethodName) prog_1_method_14_code (2 : Nat) (Option.some Jvm.ClassFile.FieldType.boolean)) ∈ lw_all := lw_g (lw_at lw_m0 40 rfl) rfl
theorem q60 : (Jvm.Cond.methodLink "GroupAllocator" (28 : Nat) ({ cls := "GroupAllocator", name := "search", desc := "(III)Z" } : Jvm.MethodName)) ∈ lw_all := lw_g (lw_at lw_m0 41 rfl) rfl
theorem q61 : (Jvm.Cond.privateMethod ({ cls := "GroupAllocator", name := "search", desc := "(III)Z" } : Jvm.MethodName)) ∈ lw_tbl := lw_at lw_m0 42 rfl
theorem q62 : (Jvm.Cond.instanceMethod ({ cls := "GroupAllocator", name := "search", desc := "(III)Z" } : Jvm.MethodName)) ∈ lw_all := lw_g (lw_at lw_m0 43 rfl) rfl
theorem q63 : (Jvm.Cond.code ({ cls := "GroupAllocator", name := "search", desc := "(III)Z" } : Jvm.MethodName) prog_1_method_17_code (11 : Nat) (Option.some Jvm.ClassFile.FieldType.boolean)) ∈ lw_all := lw_g (lw_at lw_m0 44 rfl) rfl
theorem q64 : (Jvm.Cond.methodLink "GroupAllocator" (32 : Nat) ({ cls := "GroupAllocator", name := "occupy", desc := "(II)I" } : Jvm.MethodName)) ∈ lw_all := lw_g (lw_at lw_m0 45 rfl) rfl
theorem q65 : (Jvm.Cond.privateMethod ({ cls := "GroupAllocator", name := "occupy", desc := "(II)I" } : Jvm.MethodName)) ∈ lw_tbl := lw_at lw_m0 46 rfl
theorem q66 : (Jvm.Cond.instanceMethod ({ cls := "GroupAllocator", name := "occupy", desc := "(II)I" } : Jvm.MethodName)) ∈ lw_all := lw_g (lw_at lw_m0 47 rfl) rfl
theorem q67 : (Jvm.Cond.code ({ cls := "GroupAllocator", name := "occupy", desc := "(II)I" } : Jvm.MethodName) prog_1_method_4_code (4 : Nat) (Option.some Jvm.ClassFile.FieldType.int)) ∈ lw_all := lw_g (lw_at lw_m0 48 rfl) rfl
theorem q68 : (Jvm.Cond.methodLink "GroupAllocator" (42 : Nat) ({ cls := "GroupAllocator", name := "carve", desc := "(III)V" } : Jvm.MethodName)) ∈ lw_all := lw_g (lw_at lw_m0 49 rfl) rfl
theorem q69 : (Jvm.Cond.privateMethod ({ cls := "GroupAllocator", name := "carve", desc := "(III)V" } : Jvm.MethodName)) ∈ lw_tbl := lw_at lw_m0 50 rfl
theorem q70 : (Jvm.Cond.instanceMethod ({ cls := "GroupAllocator", name := "carve", desc := "(III)V" } : Jvm.MethodName)) ∈ lw_all := lw_g (lw_at lw_m0 51 rfl) rfl
theorem q71 : (Jvm.Cond.code ({ cls := "GroupAllocator", name := "carve", desc := "(III)V" } : Jvm.MethodName) prog_1_method_20_code (6 : Nat) (Option.none : Option Jvm.ClassFile.FieldType)) ∈ lw_all := lw_g (lw_at lw_m0 52 rfl) rfl
theorem q72 : (Jvm.Cond.methodLink "GroupAllocator" (58 : Nat) ({ cls := "GroupAllocator", name := "freeOrderAround", desc := "(II)I" } : Jvm.MethodName)) ∈ lw_all := lw_g (lw_at lw_m0 53 rfl) rfl
theorem q73 : (Jvm.Cond.privateMethod ({ cls := "GroupAllocator", name := "freeOrderAround", desc := "(II)I" } : Jvm.MethodName)) ∈ lw_tbl := lw_at lw_m0 54 rfl
theorem q74 : (Jvm.Cond.instanceMethod ({ cls := "GroupAllocator", name := "freeOrderAround", desc := "(II)I" } : Jvm.MethodName)) ∈ lw_all := lw_g (lw_at lw_m0 55 rfl) rfl
theorem q75 : (Jvm.Cond.code ({ cls := "GroupAllocator", name := "freeOrderAround", desc := "(II)I" } : Jvm.MethodName) prog_1_method_18_code (4 : Nat) (Option.some Jvm.ClassFile.FieldType.int)) ∈ lw_all := lw_g (lw_at lw_m0 56 rfl) rfl
theorem q77 : (Jvm.Cond.instanceMethod ({ cls := "GroupAllocator", name := "claim", desc := "(II)I" } : Jvm.MethodName)) ∈ lw_all := lw_g (lw_at lw_m0 58 rfl) rfl
theorem q78 : (Jvm.Cond.selects "GroupAllocator" ({ cls := "GroupAllocator", name := "claim", desc := "(II)I" } : Jvm.MethodName) ({ cls := "GroupAllocator", name := "claim", desc := "(II)I" } : Jvm.MethodName)) ∈ lw_all := lw_g (lw_at lw_m0 59 rfl) rfl
theorem q79 : (Jvm.Cond.code ({ cls := "GroupAllocator", name := "claim", desc := "(II)I" } : Jvm.MethodName) prog_1_method_3_code (3 : Nat) (Option.some Jvm.ClassFile.FieldType.int)) ∈ lw_all := lw_g (lw_at lw_m0 60 rfl) rfl
theorem q80 : (Jvm.Cond.methodLink "GroupAllocator" (36 : Nat) ({ cls := "GroupAllocator", name := "isFreeRun", desc := "(III)Z" } : Jvm.MethodName)) ∈ lw_all := lw_g (lw_at lw_m0 61 rfl) rfl
theorem q81 : (Jvm.Cond.privateMethod ({ cls := "GroupAllocator", name := "isFreeRun", desc := "(III)Z" } : Jvm.MethodName)) ∈ lw_tbl := lw_at lw_m0 62 rfl
theorem q82 : (Jvm.Cond.instanceMethod ({ cls := "GroupAllocator", name := "isFreeRun", desc := "(III)Z" } : Jvm.MethodName)) ∈ lw_all := lw_g (lw_at lw_m0 63 rfl) rfl
theorem q83 : (Jvm.Cond.code ({ cls := "GroupAllocator", name := "isFreeRun", desc := "(III)Z" } : Jvm.MethodName) prog_1_method_19_code (5 : Nat) (Option.some Jvm.ClassFile.FieldType.boolean)) ∈ lw_all := lw_g (lw_at lw_m0 64 rfl) rfl
theorem q85 : (Jvm.Cond.instanceMethod ({ cls := "GroupAllocator", name := "release", desc := "(I)I" } : Jvm.MethodName)) ∈ lw_all := lw_g (lw_at lw_m0 66 rfl) rfl
theorem q86 : (Jvm.Cond.selects "GroupAllocator" ({ cls := "GroupAllocator", name := "release", desc := "(I)I" } : Jvm.MethodName) ({ cls := "GroupAllocator", name := "release", desc := "(I)I" } : Jvm.MethodName)) ∈ lw_all := lw_g (lw_at lw_m0 67 rfl) rfl
theorem q87 : (Jvm.Cond.code ({ cls := "GroupAllocator", name := "release", desc := "(I)I" } : Jvm.MethodName) prog_1_method_5_code (3 : Nat) (Option.some Jvm.ClassFile.FieldType.int)) ∈ lw_all := lw_g (lw_at lw_m0 68 rfl) rfl
theorem q88 : (Jvm.Cond.methodLink "GroupAllocator" (49 : Nat) ({ cls := "GroupAllocator", name := "isExtent", desc := "(I)Z" } : Jvm.MethodName)) ∈ lw_all := lw_g (lw_at lw_m0 69 rfl) rfl
theorem q89 : (Jvm.Cond.privateMethod ({ cls := "GroupAllocator", name := "isExtent", desc := "(I)Z" } : Jvm.MethodName)) ∈ lw_tbl := lw_at lw_m0 70 rfl
theorem q90 : (Jvm.Cond.instanceMethod ({ cls := "GroupAllocator", name := "isExtent", desc := "(I)Z" } : Jvm.MethodName)) ∈ lw_all := lw_g (lw_at lw_m0 71 rfl) rfl
theorem q91 : (Jvm.Cond.code ({ cls := "GroupAllocator", name := "isExtent", desc := "(I)Z" } : Jvm.MethodName) prog_1_method_15_code (2 : Nat) (Option.some Jvm.ClassFile.FieldType.boolean)) ∈ lw_all := lw_g (lw_at lw_m0 72 rfl) rfl
theorem q92 : (Jvm.Cond.methodLink "GroupAllocator" (52 : Nat) ({ cls := "GroupAllocator", name := "giveBack", desc := "(III)V" } : Jvm.MethodName)) ∈ lw_all := lw_g (lw_at lw_m0 73 rfl) rfl
theorem q93 : (Jvm.Cond.privateMethod ({ cls := "GroupAllocator", name := "giveBack", desc := "(III)V" } : Jvm.MethodName)) ∈ lw_tbl := lw_at lw_m0 74 rfl
theorem q94 : (Jvm.Cond.instanceMethod ({ cls := "GroupAllocator", name := "giveBack", desc := "(III)V" } : Jvm.MethodName)) ∈ lw_all := lw_g (lw_at lw_m0 75 rfl) rfl
theorem q95 : (Jvm.Cond.code ({ cls := "GroupAllocator", name := "giveBack", desc := "(III)V" } : Jvm.MethodName) prog_1_method_21_code (6 : Nat) (Option.none : Option Jvm.ClassFile.FieldType)) ∈ lw_all := lw_g (lw_at lw_m0 76 rfl) rfl
theorem q97 : (Jvm.Cond.instanceMethod ({ cls := "GroupAllocator", name := "grow", desc := "(I)I" } : Jvm.MethodName)) ∈ lw_all := lw_g (lw_at lw_m0 78 rfl) rfl
theorem q98 : (Jvm.Cond.selects "GroupAllocator" ({ cls := "GroupAllocator", name := "grow", desc := "(I)I" } : Jvm.MethodName) ({ cls := "GroupAllocator", name := "grow", desc := "(I)I" } : Jvm.MethodName)) ∈ lw_all := lw_g (lw_at lw_m0 79 rfl) rfl
theorem q99 : (Jvm.Cond.code ({ cls := "GroupAllocator", name := "grow", desc := "(I)I" } : Jvm.MethodName) prog_1_method_6_code (4 : Nat) (Option.some Jvm.ClassFile.FieldType.int)) ∈ lw_all := lw_g (lw_at lw_m0 80 rfl) rfl
theorem q101 : (Jvm.Cond.instanceMethod ({ cls := "GroupAllocator", name := "halve", desc := "(I)I" } : Jvm.MethodName)) ∈ lw_all := lw_g (lw_at lw_m0 82 rfl) rfl
theorem q102 : (Jvm.Cond.selects "GroupAllocator" ({ cls := "GroupAllocator", name := "halve", desc := "(I)I" } : Jvm.MethodName) ({ cls := "GroupAllocator", name := "halve", desc := "(I)I" } : Jvm.MethodName)) ∈ lw_all := lw_g (lw_at lw_m0 83 rfl) rfl
theorem q103 : (Jvm.Cond.code ({ cls := "GroupAllocator", name := "halve", desc := "(I)I" } : Jvm.MethodName) prog_1_method_7_code (3 : Nat) (Option.some Jvm.ClassFile.FieldType.int)) ∈ lw_all := lw_g (lw_at lw_m0 84 rfl) rfl
theorem q105 : (Jvm.Cond.instanceMethod ({ cls := "GroupAllocator", name := "extentOf", desc := "(I)I" } : Jvm.MethodName)) ∈ lw_all := lw_g (lw_at lw_m0 86 rfl) rfl
theorem q106 : (Jvm.Cond.selects "GroupAllocator" ({ cls := "GroupAllocator", name := "extentOf", desc := "(I)I" } : Jvm.MethodName) ({ cls := "GroupAllocator", name := "extentOf", desc := "(I)I" } : Jvm.MethodName)) ∈ lw_all := lw_g (lw_at lw_m0 87 rfl) rfl
theorem q107 : (Jvm.Cond.code ({ cls := "GroupAllocator", name := "extentOf", desc := "(I)I" } : Jvm.MethodName) prog_1_method_8_code (4 : Nat) (Option.some Jvm.ClassFile.FieldType.int)) ∈ lw_all := lw_g (lw_at lw_m0 88 rfl) rfl
theorem q109 : (Jvm.Cond.instanceMethod ({ cls := "GroupAllocator", name := "freeBlocks", desc := "(I)I" } : Jvm.MethodName)) ∈ lw_all := lw_g (lw_at lw_m0 90 rfl) rfl
theorem q110 : (Jvm.Cond.selects "GroupAllocator" ({ cls := "GroupAllocator", name := "freeBlocks", desc := "(I)I" } : Jvm.MethodName) ({ cls := "GroupAllocator", name := "freeBlocks", desc := "(I)I" } : Jvm.MethodName)) ∈ lw_all := lw_g (lw_at lw_m0 91 rfl) rfl
theorem q111 : (Jvm.Cond.code ({ cls := "GroupAllocator", name := "freeBlocks", desc := "(I)I" } : Jvm.MethodName) prog_1_method_9_code (2 : Nat) (Option.some Jvm.ClassFile.FieldType.int)) ∈ lw_all := lw_g (lw_at lw_m0 92 rfl) rfl
theorem q112 : (Jvm.Cond.methodLink "GroupAllocator" (55 : Nat) ({ cls := "GroupAllocator", name := "freeIn", desc := "(II)I" } : Jvm.MethodName)) ∈ lw_all := lw_g (lw_at lw_m0 93 rfl) rfl
theorem q113 : (Jvm.Cond.privateMethod ({ cls := "GroupAllocator", name := "freeIn", desc := "(II)I" } : Jvm.MethodName)) ∈ lw_tbl := lw_at lw_m0 94 rfl
theorem q114 : (Jvm.Cond.instanceMethod ({ cls := "GroupAllocator", name := "freeIn", desc := "(II)I" } : Jvm.MethodName)) ∈ lw_all := lw_g (lw_at lw_m0 95 rfl) rfl
theorem q115 : (Jvm.Cond.code ({ cls := "GroupAllocator", name := "freeIn", desc := "(II)I" } : Jvm.MethodName) prog_1_method_16_code (7 : Nat) (Option.some Jvm.ClassFile.FieldType.int)) ∈ lw_all := lw_g (lw_at lw_m0 96 rfl) rfl
theorem q117 : (Jvm.Cond.instanceMethod ({ cls := "GroupAllocator", name := "largestFree", desc := "(I)I" } : Jvm.MethodName)) ∈ lw_all := lw_g (lw_at lw_m0 98 rfl) rfl
theorem q118 : (Jvm.Cond.selects "GroupAllocator" ({ cls := "GroupAllocator", name := "largestFree", desc := "(I)I" } : Jvm.MethodName) ({ cls := "GroupAllocator", name := "largestFree", desc := "(I)I" } : Jvm.MethodName)) ∈ lw_all := lw_g (lw_at lw_m0 99 rfl) rfl
theorem q119 : (Jvm.Cond.code ({ cls := "GroupAllocator", name := "largestFree", desc := "(I)I" } : Jvm.MethodName) prog_1_method_10_code (3 : Nat) (Option.some Jvm.ClassFile.FieldType.int)) ∈ lw_all := lw_g (lw_at lw_m0 100 rfl) rfl
theorem q121 : (Jvm.Cond.instanceMethod ({ cls := "GroupAllocator", name := "freeRuns", desc := "(I)I" } : Jvm.MethodName)) ∈ lw_all := lw_g (lw_at lw_m0 102 rfl) rfl
theorem q122 : (Jvm.Cond.selects "GroupAllocator" ({ cls := "GroupAllocator", name := "freeRuns", desc := "(I)I" } : Jvm.MethodName) ({ cls := "GroupAllocator", name := "freeRuns", desc := "(I)I" } : Jvm.MethodName)) ∈ lw_all := lw_g (lw_at lw_m0 103 rfl) rfl
theorem q123 : (Jvm.Cond.code ({ cls := "GroupAllocator", name := "freeRuns", desc := "(I)I" } : Jvm.MethodName) prog_1_method_11_code (4 : Nat) (Option.some Jvm.ClassFile.FieldType.int)) ∈ lw_all := lw_g (lw_at lw_m0 104 rfl) rfl
theorem q125 : (Jvm.Cond.instanceMethod ({ cls := "GroupAllocator", name := "extents", desc := "()I" } : Jvm.MethodName)) ∈ lw_all := lw_g (lw_at lw_m0 106 rfl) rfl
theorem q126 : (Jvm.Cond.selects "GroupAllocator" ({ cls := "GroupAllocator", name := "extents", desc := "()I" } : Jvm.MethodName) ({ cls := "GroupAllocator", name := "extents", desc := "()I" } : Jvm.MethodName)) ∈ lw_all := lw_g (lw_at lw_m0 107 rfl) rfl
theorem q127 : (Jvm.Cond.code ({ cls := "GroupAllocator", name := "extents", desc := "()I" } : Jvm.MethodName) prog_1_method_12_code (1 : Nat) (Option.some Jvm.ClassFile.FieldType.int)) ∈ lw_all := lw_g (lw_at lw_m0 108 rfl) rfl
theorem in_X1 : ∀ w ∈ wsX10, w ∈ lw_all := lw_in wsX10 [35, 37, 39, 41, 43] (by decide +kernel) (by decide +kernel)
/-! GroupAllocatorModel -/
def RX2 : String := "GroupAllocatorModel"
def TX2 : u_T := fun k => match k with
  | 0 => ("GroupAllocatorModel", "groups", "I", false)
  | 1 => ("GroupAllocatorModel", "owner", "[I", false)
  | _ => ("GroupAllocatorModel", "order", "[I", false)
def tyX2 : Nat → FieldType := fun k => match k with
  | 0 => .int
  | 1 => .array .int
  | _ => .array .int
abbrev wsX20 : List Cond := u_ws RX2 TX2 3
theorem nmX2 : ∀ a, a < 3 → ∀ b, b < 3 → a ≠ b → (TX2 a).2.1 ≠ (TX2 b).2.1 := by decide +kernel
theorem tyX2_ok : ∀ k, k < 3 → parseFieldDescriptor (TX2 k).2.2.1 = some (tyX2 k) := by decide +kernel
abbrev cX2_init : ByteArray := prog_3_method_1_code
def yX2_init : MethodName := ⟨RX2, "<init>", "(I)V"⟩
abbrev cX2_allocate : ByteArray := prog_3_method_10_code
def yX2_allocate : MethodName := ⟨RX2, "allocate", "(II)I"⟩
abbrev cX2_isOrder : ByteArray := prog_3_method_3_code
def yX2_isOrder : MethodName := ⟨RX2, "isOrder", "(I)Z"⟩
abbrev cX2_isBlock : ByteArray := prog_3_method_2_code
def yX2_isBlock : MethodName := ⟨RX2, "isBlock", "(I)Z"⟩
abbrev cX2_search : ByteArray := prog_3_method_9_code
def yX2_search : MethodName := ⟨RX2, "search", "(III)I"⟩
abbrev cX2_isRun : ByteArray := prog_3_method_5_code
def yX2_isRun : MethodName := ⟨RX2, "isRun", "(II)Z"⟩
abbrev cX2_free : ByteArray := prog_3_method_6_code
def yX2_free : MethodName := ⟨RX2, "free", "(II)Z"⟩
abbrev cX2_make : ByteArray := prog_3_method_8_code
def yX2_make : MethodName := ⟨RX2, "make", "(II)I"⟩
abbrev cX2_fill : ByteArray := prog_3_method_7_code
def yX2_fill : MethodName := ⟨RX2, "fill", "(III)V"⟩
abbrev cX2_claim : ByteArray := prog_3_method_11_code
def yX2_claim : MethodName := ⟨RX2, "claim", "(II)I"⟩
abbrev cX2_release : ByteArray := prog_3_method_12_code
def yX2_release : MethodName := ⟨RX2, "release", "(I)I"⟩
abbrev cX2_isExtent : ByteArray := prog_3_method_4_code
def yX2_isExtent : MethodName := ⟨RX2, "isExtent", "(I)Z"⟩
abbrev cX2_grow : ByteArray := prog_3_method_13_code
def yX2_grow : MethodName := ⟨RX2, "grow", "(I)I"⟩
abbrev cX2_halve : ByteArray := prog_3_method_14_code
def yX2_halve : MethodName := ⟨RX2, "halve", "(I)I"⟩
abbrev cX2_extentOf : ByteArray := prog_3_method_15_code
def yX2_extentOf : MethodName := ⟨RX2, "extentOf", "(I)I"⟩
abbrev cX2_freeBlocks : ByteArray := prog_3_method_17_code
def yX2_freeBlocks : MethodName := ⟨RX2, "freeBlocks", "(I)I"⟩
abbrev cX2_isGroup : ByteArray := prog_3_method_16_code
def yX2_isGroup : MethodName := ⟨RX2, "isGroup", "(I)Z"⟩
abbrev cX2_largestFree : ByteArray := prog_3_method_18_code
def yX2_largestFree : MethodName := ⟨RX2, "largestFree", "(I)I"⟩
abbrev cX2_freeRuns : ByteArray := prog_3_method_19_code
def yX2_freeRuns : MethodName := ⟨RX2, "freeRuns", "(I)I"⟩
abbrev cX2_extents : ByteArray := prog_3_method_20_code
def yX2_extents : MethodName := ⟨RX2, "extents", "()I"⟩
theorem q21 : (Jvm.Cond.initialized "GroupAllocatorModel") ∈ lw_all := lw_g (lw_at lw_m0 2 rfl) rfl
theorem q132 : (Jvm.Cond.instantiable "GroupAllocatorModel" (3 : Nat)) ∈ lw_all := lw_g (lw_at lw_m0 113 rfl) rfl
theorem q134 : (Jvm.Cond.instanceMethod ({ cls := "GroupAllocatorModel", name := "<init>", desc := "(I)V" } : Jvm.MethodName)) ∈ lw_all := lw_g (lw_at lw_m0 115 rfl) rfl
theorem q135 : (Jvm.Cond.code ({ cls := "GroupAllocatorModel", name := "<init>", desc := "(I)V" } : Jvm.MethodName) prog_3_method_1_code (3 : Nat) (Option.none : Option Jvm.ClassFile.FieldType)) ∈ lw_all := lw_g (lw_at lw_m0 116 rfl) rfl
theorem q136 : (Jvm.Cond.methodLink "GroupAllocatorModel" (1 : Nat) ({ cls := "java/lang/Object", name := "<init>", desc := "()V" } : Jvm.MethodName)) ∈ lw_all := lw_g (lw_at lw_m0 117 rfl) rfl
theorem q137 : (Jvm.Cond.fieldLink "GroupAllocatorModel" (16 : Nat) "GroupAllocatorModel" "groups" "I") ∈ lw_all := lw_g (lw_at lw_m0 118 rfl) rfl
theorem q138 : (Jvm.Cond.fieldLink "GroupAllocatorModel" (7 : Nat) "GroupAllocatorModel" "owner" "[I") ∈ lw_all := lw_g (lw_at lw_m0 119 rfl) rfl
theorem q139 : (Jvm.Cond.fieldLink "GroupAllocatorModel" (13 : Nat) "GroupAllocatorModel" "order" "[I") ∈ lw_all := lw_g (lw_at lw_m0 120 rfl) rfl
theorem q140 : (Jvm.Cond.lays "GroupAllocatorModel" "GroupAllocatorModel" "groups" "I") ∈ lw_all := lw_g (lw_at lw_m0 121 rfl) rfl
theorem q141 : (Jvm.Cond.soleField "GroupAllocatorModel" "groups") ∈ lw_all := lw_g (lw_at lw_m0 122 rfl) rfl
theorem q142 : (Jvm.Cond.lays "GroupAllocatorModel" "GroupAllocatorModel" "owner" "[I") ∈ lw_all := lw_g (lw_at lw_m0 123 rfl) rfl
theorem q143 : (Jvm.Cond.soleField "GroupAllocatorModel" "owner") ∈ lw_all := lw_g (lw_at lw_m0 124 rfl) rfl
theorem q144 : (Jvm.Cond.lays "GroupAllocatorModel" "GroupAllocatorModel" "order" "[I") ∈ lw_all := lw_g (lw_at lw_m0 125 rfl) rfl
theorem q145 : (Jvm.Cond.soleField "GroupAllocatorModel" "order") ∈ lw_all := lw_g (lw_at lw_m0 126 rfl) rfl
theorem q146 : (Jvm.Cond.superclass "GroupAllocatorModel" "java/lang/Object") ∈ lw_all := lw_g (lw_at lw_m0 127 rfl) rfl
theorem q148 : (Jvm.Cond.instanceMethod ({ cls := "GroupAllocatorModel", name := "allocate", desc := "(II)I" } : Jvm.MethodName)) ∈ lw_all := lw_g (lw_at lw_m0 129 rfl) rfl
theorem q149 : (Jvm.Cond.selects "GroupAllocatorModel" ({ cls := "GroupAllocatorModel", name := "allocate", desc := "(II)I" } : Jvm.MethodName) ({ cls := "GroupAllocatorModel", name := "allocate", desc := "(II)I" } : Jvm.MethodName)) ∈ lw_all := lw_g (lw_at lw_m0 130 rfl) rfl
theorem q150 : (Jvm.Cond.code ({ cls := "GroupAllocatorModel", name := "allocate", desc := "(II)I" } : Jvm.MethodName) prog_3_method_10_code (7 : Nat) (Option.some Jvm.ClassFile.FieldType.int)) ∈ lw_all := lw_g (lw_at lw_m0 131 rfl) rfl
theorem q151 : (Jvm.Cond.methodLink "GroupAllocatorModel" (35 : Nat) ({ cls := "GroupAllocatorModel", name := "isOrder", desc := "(I)Z" } : Jvm.MethodName)) ∈ lw_all := lw_g (lw_at lw_m0 132 rfl) rfl
theorem q152 : (Jvm.Cond.privateMethod ({ cls := "GroupAllocatorModel", name := "isOrder", desc := "(I)Z" } : Jvm.MethodName)) ∈ lw_tbl := lw_at lw_m0 133 rfl
theorem q153 : (Jvm.Cond.instanceMethod ({ cls := "GroupAllocatorModel", name := "isOrder", desc := "(I)Z" } : Jvm.MethodName)) ∈ lw_all := lw_g (lw_at lw_m0 134 rfl) rfl
theorem q154 : (Jvm.Cond.code ({ cls := "GroupAllocatorModel", name := "isOrder", desc := "(I)Z" } : Jvm.MethodName) prog_3_method_3_code (2 : Nat) (Option.some Jvm.ClassFile.FieldType.boolean)) ∈ lw_all := lw_g (lw_at lw_m0 135 rfl) rfl
theorem q155 : (Jvm.Cond.methodLink "GroupAllocatorModel" (20 : Nat) ({ cls := "GroupAllocatorModel", name := "isBlock", desc := "(I)Z" } : Jvm.MethodName)) ∈ lw_all := lw_g (lw_at lw_m0 136 rfl) rfl
theorem q156 : (Jvm.Cond.privateMethod ({ cls := "GroupAllocatorModel", name := "isBlock", desc := "(I)Z" } : Jvm.MethodName)) ∈ lw_tbl := lw_at lw_m0 137 rfl
theorem q157 : (Jvm.Cond.instanceMethod ({ cls := "GroupAllocatorModel", name := "isBlock", desc := "(I)Z" } : Jvm.MethodName)) ∈ lw_all := lw_g (lw_at lw_m0 138 rfl) rfl
theorem q158 : (Jvm.Cond.code ({ cls := "GroupAllocatorModel", name := "isBlock", desc := "(I)Z" } : Jvm.MethodName) prog_3_method_2_code (2 : Nat) (Option.some Jvm.ClassFile.FieldType.boolean)) ∈ lw_all := lw_g (lw_at lw_m0 139 rfl) rfl
theorem q159 : (Jvm.Cond.methodLink "GroupAllocatorModel" (38 : Nat) ({ cls := "GroupAllocatorModel", name := "search", desc := "(III)I" } : Jvm.MethodName)) ∈ lw_all := lw_g (lw_at lw_m0 140 rfl) rfl
theorem q160 : (Jvm.Cond.privateMethod ({ cls := "GroupAllocatorModel", name := "search", desc := "(III)I" } : Jvm.MethodName)) ∈ lw_tbl := lw_at lw_m0 141 rfl
theorem q161 : (Jvm.Cond.instanceMethod ({ cls := "GroupAllocatorModel", name := "search", desc := "(III)I" } : Jvm.MethodName)) ∈ lw_all := lw_g (lw_at lw_m0 142 rfl) rfl
theorem q162 : (Jvm.Cond.code ({ cls := "GroupAllocatorModel", name := "search", desc := "(III)I" } : Jvm.MethodName) prog_3_method_9_code (5 : Nat) (Option.some Jvm.ClassFile.FieldType.int)) ∈ lw_all := lw_g (lw_at lw_m0 143 rfl) rfl
theorem q163 : (Jvm.Cond.methodLink "GroupAllocatorModel" (28 : Nat) ({ cls := "GroupAllocatorModel", name := "isRun", desc := "(II)Z" } : Jvm.MethodName)) ∈ lw_all := lw_g (lw_at lw_m0 144 rfl) rfl
theorem q164 : (Jvm.Cond.privateMethod ({ cls := "GroupAllocatorModel", name := "isRun", desc := "(II)Z" } : Jvm.MethodName)) ∈ lw_tbl := lw_at lw_m0 145 rfl
theorem q165 : (Jvm.Cond.instanceMethod ({ cls := "GroupAllocatorModel", name := "isRun", desc := "(II)Z" } : Jvm.MethodName)) ∈ lw_all := lw_g (lw_at lw_m0 146 rfl) rfl
theorem q166 : (Jvm.Cond.code ({ cls := "GroupAllocatorModel", name := "isRun", desc := "(II)Z" } : Jvm.MethodName) prog_3_method_5_code (3 : Nat) (Option.some Jvm.ClassFile.FieldType.boolean)) ∈ lw_all := lw_g (lw_at lw_m0 147 rfl) rfl
theorem q167 : (Jvm.Cond.methodLink "GroupAllocatorModel" (32 : Nat) ({ cls := "GroupAllocatorModel", name := "free", desc := "(II)Z" } : Jvm.MethodName)) ∈ lw_all := lw_g (lw_at lw_m0 148 rfl) rfl
theorem q168 : (Jvm.Cond.privateMethod ({ cls := "GroupAllocatorModel", name := "free", desc := "(II)Z" } : Jvm.MethodName)) ∈ lw_tbl := lw_at lw_m0 149 rfl
theorem q169 : (Jvm.Cond.instanceMethod ({ cls := "GroupAllocatorModel", name := "free", desc := "(II)Z" } : Jvm.MethodName)) ∈ lw_all := lw_g (lw_at lw_m0 150 rfl) rfl
theorem q170 : (Jvm.Cond.code ({ cls := "GroupAllocatorModel", name := "free", desc := "(II)Z" } : Jvm.MethodName) prog_3_method_6_code (4 : Nat) (Option.some Jvm.ClassFile.FieldType.boolean)) ∈ lw_all := lw_g (lw_at lw_m0 151 rfl) rfl
theorem q171 : (Jvm.Cond.methodLink "GroupAllocatorModel" (42 : Nat) ({ cls := "GroupAllocatorModel", name := "make", desc := "(II)I" } : Jvm.MethodName)) ∈ lw_all := lw_g (lw_at lw_m0 152 rfl) rfl
theorem q172 : (Jvm.Cond.privateMethod ({ cls := "GroupAllocatorModel", name := "make", desc := "(II)I" } : Jvm.MethodName)) ∈ lw_tbl := lw_at lw_m0 153 rfl
theorem q173 : (Jvm.Cond.instanceMethod ({ cls := "GroupAllocatorModel", name := "make", desc := "(II)I" } : Jvm.MethodName)) ∈ lw_all := lw_g (lw_at lw_m0 154 rfl) rfl
theorem q174 : (Jvm.Cond.code ({ cls := "GroupAllocatorModel", name := "make", desc := "(II)I" } : Jvm.MethodName) prog_3_method_8_code (3 : Nat) (Option.some Jvm.ClassFile.FieldType.int)) ∈ lw_all := lw_g (lw_at lw_m0 155 rfl) rfl
theorem q175 : (Jvm.Cond.methodLink "GroupAllocatorModel" (24 : Nat) ({ cls := "GroupAllocatorModel", name := "fill", desc := "(III)V" } : Jvm.MethodName)) ∈ lw_all := lw_g (lw_at lw_m0 156 rfl) rfl
theorem q176 : (Jvm.Cond.privateMethod ({ cls := "GroupAllocatorModel", name := "fill", desc := "(III)V" } : Jvm.MethodName)) ∈ lw_tbl := lw_at lw_m0 157 rfl
theorem q177 : (Jvm.Cond.instanceMethod ({ cls := "GroupAllocatorModel", name := "fill", desc := "(III)V" } : Jvm.MethodName)) ∈ lw_all := lw_g (lw_at lw_m0 158 rfl) rfl
theorem q178 : (Jvm.Cond.code ({ cls := "GroupAllocatorModel", name := "fill", desc := "(III)V" } : Jvm.MethodName) prog_3_method_7_code (5 : Nat) (Option.none : Option Jvm.ClassFile.FieldType)) ∈ lw_all := lw_g (lw_at lw_m0 159 rfl) rfl
theorem q180 : (Jvm.Cond.instanceMethod ({ cls := "GroupAllocatorModel", name := "claim", desc := "(II)I" } : Jvm.MethodName)) ∈ lw_all := lw_g (lw_at lw_m0 161 rfl) rfl
theorem q181 : (Jvm.Cond.selects "GroupAllocatorModel" ({ cls := "GroupAllocatorModel", name := "claim", desc := "(II)I" } : Jvm.MethodName) ({ cls := "GroupAllocatorModel", name := "claim", desc := "(II)I" } : Jvm.MethodName)) ∈ lw_all := lw_g (lw_at lw_m0 162 rfl) rfl
theorem q182 : (Jvm.Cond.code ({ cls := "GroupAllocatorModel", name := "claim", desc := "(II)I" } : Jvm.MethodName) prog_3_method_11_code (3 : Nat) (Option.some Jvm.ClassFile.FieldType.int)) ∈ lw_all := lw_g (lw_at lw_m0 163 rfl) rfl
theorem q184 : (Jvm.Cond.instanceMethod ({ cls := "GroupAllocatorModel", name := "release", desc := "(I)I" } : Jvm.MethodName)) ∈ lw_all := lw_g (lw_at lw_m0 165 rfl) rfl
theorem q185 : (Jvm.Cond.selects "GroupAllocatorModel" ({ cls := "GroupAllocatorModel", name := "release", desc := "(I)I" } : Jvm.MethodName) ({ cls := "GroupAllocatorModel", name := "release", desc := "(I)I" } : Jvm.MethodName)) ∈ lw_all := lw_g (lw_at lw_m0 166 rfl) rfl
theorem q186 : (Jvm.Cond.code ({ cls := "GroupAllocatorModel", name := "release", desc := "(I)I" } : Jvm.MethodName) prog_3_method_12_code (2 : Nat) (Option.some Jvm.ClassFile.FieldType.int)) ∈ lw_all := lw_g (lw_at lw_m0 167 rfl) rfl
theorem q187 : (Jvm.Cond.methodLink "GroupAllocatorModel" (46 : Nat) ({ cls := "GroupAllocatorModel", name := "isExtent", desc := "(I)Z" } : Jvm.MethodName)) ∈ lw_all := lw_g (lw_at lw_m0 168 rfl) rfl
theorem q188 : (Jvm.Cond.privateMethod ({ cls := "GroupAllocatorModel", name := "isExtent", desc := "(I)Z" } : Jvm.MethodName)) ∈ lw_tbl := lw_at lw_m0 169 rfl
theorem q189 : (Jvm.Cond.instanceMethod ({ cls := "GroupAllocatorModel", name := "isExtent", desc := "(I)Z" } : Jvm.MethodName)) ∈ lw_all := lw_g (lw_at lw_m0 170 rfl) rfl
theorem q190 : (Jvm.Cond.code ({ cls := "GroupAllocatorModel", name := "isExtent", desc := "(I)Z" } : Jvm.MethodName) prog_3_method_4_code (2 : Nat) (Option.some Jvm.ClassFile.FieldType.boolean)) ∈ lw_all := lw_g (lw_at lw_m0 171 rfl) rfl
theorem q192 : (Jvm.Cond.instanceMethod ({ cls := "GroupAllocatorModel", name := "grow", desc := "(I)I" } : Jvm.MethodName)) ∈ lw_all := lw_g (lw_at lw_m0 173 rfl) rfl
theorem q193 : (Jvm.Cond.selects "GroupAllocatorModel" ({ cls := "GroupAllocatorModel", name := "grow", desc := "(I)I" } : Jvm.MethodName) ({ cls := "GroupAllocatorModel", name := "grow", desc := "(I)I" } : Jvm.MethodName)) ∈ lw_all := lw_g (lw_at lw_m0 174 rfl) rfl
theorem q194 : (Jvm.Cond.code ({ cls := "GroupAllocatorModel", name := "grow", desc := "(I)I" } : Jvm.MethodName) prog_3_method_13_code (3 : Nat) (Option.some Jvm.ClassFile.FieldType.int)) ∈ lw_all := lw_g (lw_at lw_m0 175 rfl) rfl
theorem q196 : (Jvm.Cond.instanceMethod ({ cls := "GroupAllocatorModel", name := "halve", desc := "(I)I" } : Jvm.MethodName)) ∈ lw_all := lw_g (lw_at lw_m0 177 rfl) rfl
theorem q197 : (Jvm.Cond.selects "GroupAllocatorModel" ({ cls := "GroupAllocatorModel", name := "halve", desc := "(I)I" } : Jvm.MethodName) ({ cls := "GroupAllocatorModel", name := "halve", desc := "(I)I" } : Jvm.MethodName)) ∈ lw_all := lw_g (lw_at lw_m0 178 rfl) rfl
theorem q198 : (Jvm.Cond.code ({ cls := "GroupAllocatorModel", name := "halve", desc := "(I)I" } : Jvm.MethodName) prog_3_method_14_code (3 : Nat) (Option.some Jvm.ClassFile.FieldType.int)) ∈ lw_all := lw_g (lw_at lw_m0 179 rfl) rfl
theorem q200 : (Jvm.Cond.instanceMethod ({ cls := "GroupAllocatorModel", name := "extentOf", desc := "(I)I" } : Jvm.MethodName)) ∈ lw_all := lw_g (lw_at lw_m0 181 rfl) rfl
theorem q201 : (Jvm.Cond.selects "GroupAllocatorModel" ({ cls := "GroupAllocatorModel", name := "extentOf", desc := "(I)I" } : Jvm.MethodName) ({ cls := "GroupAllocatorModel", name := "extentOf", desc := "(I)I" } : Jvm.MethodName)) ∈ lw_all := lw_g (lw_at lw_m0 182 rfl) rfl
theorem q202 : (Jvm.Cond.code ({ cls := "GroupAllocatorModel", name := "extentOf", desc := "(I)I" } : Jvm.MethodName) prog_3_method_15_code (2 : Nat) (Option.some Jvm.ClassFile.FieldType.int)) ∈ lw_all := lw_g (lw_at lw_m0 183 rfl) rfl
theorem q204 : (Jvm.Cond.instanceMethod ({ cls := "GroupAllocatorModel", name := "freeBlocks", desc := "(I)I" } : Jvm.MethodName)) ∈ lw_all := lw_g (lw_at lw_m0 185 rfl) rfl
theorem q205 : (Jvm.Cond.selects "GroupAllocatorModel" ({ cls := "GroupAllocatorModel", name := "freeBlocks", desc := "(I)I" } : Jvm.MethodName) ({ cls := "GroupAllocatorModel", name := "freeBlocks", desc := "(I)I" } : Jvm.MethodName)) ∈ lw_all := lw_g (lw_at lw_m0 186 rfl) rfl
theorem q206 : (Jvm.Cond.code ({ cls := "GroupAllocatorModel", name := "freeBlocks", desc := "(I)I" } : Jvm.MethodName) prog_3_method_17_code (4 : Nat) (Option.some Jvm.ClassFile.FieldType.int)) ∈ lw_all := lw_g (lw_at lw_m0 187 rfl) rfl
theorem q207 : (Jvm.Cond.methodLink "GroupAllocatorModel" (49 : Nat) ({ cls := "GroupAllocatorModel", name := "isGroup", desc := "(I)Z" } : Jvm.MethodName)) ∈ lw_all := lw_g (lw_at lw_m0 188 rfl) rfl
theorem q208 : (Jvm.Cond.privateMethod ({ cls := "GroupAllocatorModel", name := "isGroup", desc := "(I)Z" } : Jvm.MethodName)) ∈ lw_tbl := lw_at lw_m0 189 rfl
theorem q209 : (Jvm.Cond.instanceMethod ({ cls := "GroupAllocatorModel", name := "isGroup", desc := "(I)Z" } : Jvm.MethodName)) ∈ lw_all := lw_g (lw_at lw_m0 190 rfl) rfl
theorem q210 : (Jvm.Cond.code ({ cls := "GroupAllocatorModel", name := "isGroup", desc := "(I)Z" } : Jvm.MethodName) prog_3_method_16_code (2 : Nat) (Option.some Jvm.ClassFile.FieldType.boolean)) ∈ lw_all := lw_g (lw_at lw_m0 191 rfl) rfl
theorem q212 : (Jvm.Cond.instanceMethod ({ cls := "GroupAllocatorModel", name := "largestFree", desc := "(I)I" } : Jvm.MethodName)) ∈ lw_all := lw_g (lw_at lw_m0 193 rfl) rfl
theorem q213 : (Jvm.Cond.selects "GroupAllocatorModel" ({ cls := "GroupAllocatorModel", name := "largestFree", desc := "(I)I" } : Jvm.MethodName) ({ cls := "GroupAllocatorModel", name := "largestFree", desc := "(I)I" } : Jvm.MethodName)) ∈ lw_all := lw_g (lw_at lw_m0 194 rfl) rfl
theorem q214 : (Jvm.Cond.code ({ cls := "GroupAllocatorModel", name := "largestFree", desc := "(I)I" } : Jvm.MethodName) prog_3_method_18_code (4 : Nat) (Option.some Jvm.ClassFile.FieldType.int)) ∈ lw_all := lw_g (lw_at lw_m0 195 rfl) rfl
theorem q216 : (Jvm.Cond.instanceMethod ({ cls := "GroupAllocatorModel", name := "freeRuns", desc := "(I)I" } : Jvm.MethodName)) ∈ lw_all := lw_g (lw_at lw_m0 197 rfl) rfl
theorem q217 : (Jvm.Cond.selects "GroupAllocatorModel" ({ cls := "GroupAllocatorModel", name := "freeRuns", desc := "(I)I" } : Jvm.MethodName) ({ cls := "GroupAllocatorModel", name := "freeRuns", desc := "(I)I" } : Jvm.MethodName)) ∈ lw_all := lw_g (lw_at lw_m0 198 rfl) rfl
theorem q218 : (Jvm.Cond.code ({ cls := "GroupAllocatorModel", name := "freeRuns", desc := "(I)I" } : Jvm.MethodName) prog_3_method_19_code (4 : Nat) (Option.some Jvm.ClassFile.FieldType.int)) ∈ lw_all := lw_g (lw_at lw_m0 199 rfl) rfl
theorem q220 : (Jvm.Cond.instanceMethod ({ cls := "GroupAllocatorModel", name := "extents", desc := "()I" } : Jvm.MethodName)) ∈ lw_all := lw_g (lw_at lw_m0 201 rfl) rfl
theorem q221 : (Jvm.Cond.selects "GroupAllocatorModel" ({ cls := "GroupAllocatorModel", name := "extents", desc := "()I" } : Jvm.MethodName) ({ cls := "GroupAllocatorModel", name := "extents", desc := "()I" } : Jvm.MethodName)) ∈ lw_all := lw_g (lw_at lw_m0 202 rfl) rfl
theorem q222 : (Jvm.Cond.code ({ cls := "GroupAllocatorModel", name := "extents", desc := "()I" } : Jvm.MethodName) prog_3_method_20_code (3 : Nat) (Option.some Jvm.ClassFile.FieldType.int)) ∈ lw_all := lw_g (lw_at lw_m0 203 rfl) rfl
theorem in_X2 : ∀ w ∈ wsX20, w ∈ lw_all := lw_in wsX20 [140, 142, 144] (by decide +kernel) (by decide +kernel)
theorem q46 : (Jvm.Cond.arrayClass Jvm.ClassFile.FieldType.int) ∈ lw_all := lw_g (lw_at lw_m0 27 rfl) rfl
theorem q47 : (Jvm.Cond.arrayClass Jvm.ClassFile.FieldType.byte) ∈ lw_all := lw_g (lw_at lw_m0 28 rfl) rfl
end
section
set_option maxRecDepth 100000
theorem dX1_init_0 : decode cX1_init 0 = .ok (.aload_n 0, 1) := by decide +kernel
theorem dX1_init_1 : decode cX1_init 1 = .ok (.invokespecial 1, 3) := by decide +kernel
theorem dX1_init_4 : decode cX1_init 4 = .ok (.aload_n 0, 1) := by decide +kernel
theorem dX1_init_5 : decode cX1_init 5 = .ok (.bipush 24, 2) := by decide +kernel
theorem dX1_init_7 : decode cX1_init 7 = .ok (.newarray .int, 2) := by decide +kernel
theorem dX1_init_9 : decode cX1_init 9 = .ok (.putfield 7, 3) := by decide +kernel
theorem dX1_init_12 : decode cX1_init 12 = .ok (.aload_n 0, 1) := by decide +kernel
theorem dX1_init_13 : decode cX1_init 13 = .ok (.sipush 128, 3) := by decide +kernel
theorem dX1_init_16 : decode cX1_init 16 = .ok (.newarray .byte, 2) := by decide +kernel
theorem dX1_init_18 : decode cX1_init 18 = .ok (.putfield 13, 3) := by decide +kernel
theorem dX1_init_21 : decode cX1_init 21 = .ok (.aload_n 0, 1) := by decide +kernel
theorem dX1_init_22 : decode cX1_init 22 = .ok (.iload_n 1, 1) := by decide +kernel
theorem dX1_init_23 : decode cX1_init 23 = .ok (.iconst 1, 1) := by decide +kernel
theorem dX1_init_24 : decode cX1_init 24 = .ok (.if_icmp .ge 7, 3) := by decide +kernel
theorem dX1_init_27 : decode cX1_init 27 = .ok (.iconst 1, 1) := by decide +kernel
theorem dX1_init_28 : decode cX1_init 28 = .ok (.goto 13, 3) := by decide +kernel
theorem dX1_init_31 : decode cX1_init 31 = .ok (.iload_n 1, 1) := by decide +kernel
theorem dX1_init_32 : decode cX1_init 32 = .ok (.iconst 4, 1) := by decide +kernel
theorem dX1_init_33 : decode cX1_init 33 = .ok (.if_icmp .le 7, 3) := by decide +kernel
theorem dX1_init_36 : decode cX1_init 36 = .ok (.iconst 4, 1) := by decide +kernel
theorem dX1_init_37 : decode cX1_init 37 = .ok (.goto 4, 3) := by decide +kernel
theorem dX1_init_40 : decode cX1_init 40 = .ok (.iload_n 1, 1) := by decide +kernel
theorem dX1_init_41 : decode cX1_init 41 = .ok (.putfield 17, 3) := by decide +kernel
theorem dX1_init_44 : decode cX1_init 44 = .ok (.iconst 0, 1) := by decide +kernel
theorem dX1_init_45 : decode cX1_init 45 = .ok (.istore_n 2, 1) := by decide +kernel
theorem dX1_init_46 : decode cX1_init 46 = .ok (.iload_n 2, 1) := by decide +kernel
theorem dX1_init_47 : decode cX1_init 47 = .ok (.aload_n 0, 1) := by decide +kernel
theorem dX1_init_48 : decode cX1_init 48 = .ok (.getfield 17, 3) := by decide +kernel
theorem dX1_init_51 : decode cX1_init 51 = .ok (.if_icmp .ge 21, 3) := by decide +kernel
theorem dX1_init_54 : decode cX1_init 54 = .ok (.aload_n 0, 1) := by decide +kernel
theorem dX1_init_55 : decode cX1_init 55 = .ok (.getfield 7, 3) := by decide +kernel
theorem dX1_init_58 : decode cX1_init 58 = .ok (.bipush 6, 2) := by decide +kernel
theorem dX1_init_60 : decode cX1_init 60 = .ok (.iload_n 2, 1) := by decide +kernel
theorem dX1_init_61 : decode cX1_init 61 = .ok (.imul, 1) := by decide +kernel
theorem dX1_init_62 : decode cX1_init 62 = .ok (.iconst 5, 1) := by decide +kernel
theorem dX1_init_63 : decode cX1_init 63 = .ok (.iadd, 1) := by decide +kernel
theorem dX1_init_64 : decode cX1_init 64 = .ok (.iconst 1, 1) := by decide +kernel
theorem dX1_init_65 : decode cX1_init 65 = .ok (.iastore, 1) := by decide +kernel
theorem dX1_init_66 : decode cX1_init 66 = .ok (.iinc 2 1, 3) := by decide +kernel
theorem dX1_init_69 : decode cX1_init 69 = .ok (.goto (-23), 3) := by decide +kernel
theorem dX1_init_72 : decode cX1_init 72 = .ok (.iconst 0, 1) := by decide +kernel
theorem dX1_init_73 : decode cX1_init 73 = .ok (.istore_n 2, 1) := by decide +kernel
theorem dX1_init_74 : decode cX1_init 74 = .ok (.iload_n 2, 1) := by decide +kernel
theorem dX1_init_75 : decode cX1_init 75 = .ok (.sipush 128, 3) := by decide +kernel
theorem dX1_init_78 : decode cX1_init 78 = .ok (.if_icmp .ge 16, 3) := by decide +kernel
theorem dX1_init_81 : decode cX1_init 81 = .ok (.aload_n 0, 1) := by decide +kernel
theorem dX1_init_82 : decode cX1_init 82 = .ok (.getfield 13, 3) := by decide +kernel
theorem dX1_init_85 : decode cX1_init 85 = .ok (.iload_n 2, 1) := by decide +kernel
theorem dX1_init_86 : decode cX1_init 86 = .ok (.iconst (-1), 1) := by decide +kernel
theorem dX1_init_87 : decode cX1_init 87 = .ok (.bastore, 1) := by decide +kernel
theorem dX1_init_88 : decode cX1_init 88 = .ok (.iinc 2 1, 3) := by decide +kernel
theorem dX1_init_91 : decode cX1_init 91 = .ok (.goto (-17), 3) := by decide +kernel
theorem dX1_init_94 : decode cX1_init 94 = .ok (.return_, 1) := by decide +kernel
theorem dX1_allocate_0 : decode cX1_allocate 0 = .ok (.aload_n 0, 1) := by decide +kernel
theorem dX1_allocate_1 : decode cX1_allocate 1 = .ok (.iload_n 1, 1) := by decide +kernel
theorem dX1_allocate_2 : decode cX1_allocate 2 = .ok (.invokevirtual 21, 3) := by decide +kernel
theorem dX1_allocate_5 : decode cX1_allocate 5 = .ok (.ifCond .eq 11, 3) := by decide +kernel
theorem dX1_allocate_8 : decode cX1_allocate 8 = .ok (.aload_n 0, 1) := by decide +kernel
theorem dX1_allocate_9 : decode cX1_allocate 9 = .ok (.iload_n 2, 1) := by decide +kernel
theorem dX1_allocate_10 : decode cX1_allocate 10 = .ok (.invokevirtual 25, 3) := by decide +kernel
theorem dX1_allocate_13 : decode cX1_allocate 13 = .ok (.ifCond .ne 5, 3) := by decide +kernel
theorem dX1_allocate_16 : decode cX1_allocate 16 = .ok (.iconst (-1), 1) := by decide +kernel
theorem dX1_allocate_17 : decode cX1_allocate 17 = .ok (.ireturn, 1) := by decide +kernel
theorem dX1_allocate_18 : decode cX1_allocate 18 = .ok (.iload_n 2, 1) := by decide +kernel
theorem dX1_allocate_19 : decode cX1_allocate 19 = .ok (.iconst 5, 1) := by decide +kernel
theorem dX1_allocate_20 : decode cX1_allocate 20 = .ok (.ishr, 1) := by decide +kernel
theorem dX1_allocate_21 : decode cX1_allocate 21 = .ok (.istore_n 3, 1) := by decide +kernel
theorem dX1_allocate_22 : decode cX1_allocate 22 = .ok (.aload_n 0, 1) := by decide +kernel
theorem dX1_allocate_23 : decode cX1_allocate 23 = .ok (.iload_n 3, 1) := by decide +kernel
theorem dX1_allocate_24 : decode cX1_allocate 24 = .ok (.iload_n 1, 1) := by decide +kernel
theorem dX1_allocate_25 : decode cX1_allocate 25 = .ok (.iload_n 2, 1) := by decide +kernel
theorem dX1_allocate_26 : decode cX1_allocate 26 = .ok (.bipush 31, 2) := by decide +kernel
theorem dX1_allocate_28 : decode cX1_allocate 28 = .ok (.iand, 1) := by decide +kernel
theorem dX1_allocate_29 : decode cX1_allocate 29 = .ok (.invokevirtual 28, 3) := by decide +kernel
theorem dX1_allocate_32 : decode cX1_allocate 32 = .ok (.ifCond .eq 10, 3) := by decide +kernel
theorem dX1_allocate_35 : decode cX1_allocate 35 = .ok (.aload_n 0, 1) := by decide +kernel
theorem dX1_allocate_36 : decode cX1_allocate 36 = .ok (.iload_n 3, 1) := by decide +kernel
theorem dX1_allocate_37 : decode cX1_allocate 37 = .ok (.iload_n 1, 1) := by decide +kernel
theorem dX1_allocate_38 : decode cX1_allocate 38 = .ok (.invokevirtual 32, 3) := by decide +kernel
theorem dX1_allocate_41 : decode cX1_allocate 41 = .ok (.ireturn, 1) := by decide +kernel
theorem dX1_allocate_42 : decode cX1_allocate 42 = .ok (.iconst 0, 1) := by decide +kernel
theorem dX1_allocate_43 : decode cX1_allocate 43 = .ok (.istore 4, 2) := by decide +kernel
theorem dX1_allocate_45 : decode cX1_allocate 45 = .ok (.iload 4, 2) := by decide +kernel
theorem dX1_allocate_47 : decode cX1_allocate 47 = .ok (.aload_n 0, 1) := by decide +kernel
theorem dX1_allocate_48 : decode cX1_allocate 48 = .ok (.getfield 17, 3) := by decide +kernel
theorem dX1_allocate_51 : decode cX1_allocate 51 = .ok (.if_icmp .ge 39, 3) := by decide +kernel
theorem dX1_allocate_54 : decode cX1_allocate 54 = .ok (.iload_n 3, 1) := by decide +kernel
theorem dX1_allocate_55 : decode cX1_allocate 55 = .ok (.iload 4, 2) := by decide +kernel
theorem dX1_allocate_57 : decode cX1_allocate 57 = .ok (.iadd, 1) := by decide +kernel
theorem dX1_allocate_58 : decode cX1_allocate 58 = .ok (.aload_n 0, 1) := by decide +kernel
theorem dX1_allocate_59 : decode cX1_allocate 59 = .ok (.getfield 17, 3) := by decide +kernel
theorem dX1_allocate_62 : decode cX1_allocate 62 = .ok (.irem, 1) := by decide +kernel
theorem dX1_allocate_63 : decode cX1_allocate 63 = .ok (.istore 5, 2) := by decide +kernel
theorem dX1_allocate_65 : decode cX1_allocate 65 = .ok (.aload_n 0, 1) := by decide +kernel
theorem dX1_allocate_66 : decode cX1_allocate 66 = .ok (.iload 5, 2) := by decide +kernel
theorem dX1_allocate_68 : decode cX1_allocate 68 = .ok (.iload_n 1, 1) := by decide +kernel
theorem dX1_allocate_69 : decode cX1_allocate 69 = .ok (.iconst 0, 1) := by decide +kernel
theorem dX1_allocate_70 : decode cX1_allocate 70 = .ok (.invokevirtual 28, 3) := by decide +kernel
theorem dX1_allocate_73 : decode cX1_allocate 73 = .ok (.ifCond .eq 11, 3) := by decide +kernel
theorem dX1_allocate_76 : decode cX1_allocate 76 = .ok (.aload_n 0, 1) := by decide +kernel
theorem dX1_allocate_77 : decode cX1_allocate 77 = .ok (.iload 5, 2) := by decide +kernel
theorem dX1_allocate_79 : decode cX1_allocate 79 = .ok (.iload_n 1, 1) := by decide +kernel
theorem dX1_allocate_80 : decode cX1_allocate 80 = .ok (.invokevirtual 32, 3) := by decide +kernel
theorem dX1_allocate_83 : decode cX1_allocate 83 = .ok (.ireturn, 1) := by decide +kernel
theorem dX1_allocate_84 : decode cX1_allocate 84 = .ok (.iinc 4 1, 3) := by decide +kernel
theorem dX1_allocate_87 : decode cX1_allocate 87 = .ok (.goto (-42), 3) := by decide +kernel
theorem dX1_allocate_90 : decode cX1_allocate 90 = .ok (.bipush (-2), 2) := by decide +kernel
theorem dX1_allocate_92 : decode cX1_allocate 92 = .ok (.ireturn, 1) := by decide +kernel
theorem dX1_isOrder_0 : decode cX1_isOrder 0 = .ok (.iload_n 1, 1) := by decide +kernel
theorem dX1_isOrder_1 : decode cX1_isOrder 1 = .ok (.ifCond .lt 12, 3) := by decide +kernel
theorem dX1_isOrder_4 : decode cX1_isOrder 4 = .ok (.iload_n 1, 1) := by decide +kernel
theorem dX1_isOrder_5 : decode cX1_isOrder 5 = .ok (.iconst 5, 1) := by decide +kernel
theorem dX1_isOrder_6 : decode cX1_isOrder 6 = .ok (.if_icmp .gt 7, 3) := by decide +kernel
theorem dX1_isOrder_9 : decode cX1_isOrder 9 = .ok (.iconst 1, 1) := by decide +kernel
theorem dX1_isOrder_10 : decode cX1_isOrder 10 = .ok (.goto 4, 3) := by decide +kernel
theorem dX1_isOrder_13 : decode cX1_isOrder 13 = .ok (.iconst 0, 1) := by decide +kernel
theorem dX1_isOrder_14 : decode cX1_isOrder 14 = .ok (.ireturn, 1) := by decide +kernel
theorem dX1_isBlock_0 : decode cX1_isBlock 0 = .ok (.iload_n 1, 1) := by decide +kernel
theorem dX1_isBlock_1 : decode cX1_isBlock 1 = .ok (.ifCond .lt 18, 3) := by decide +kernel
theorem dX1_isBlock_4 : decode cX1_isBlock 4 = .ok (.iload_n 1, 1) := by decide +kernel
theorem dX1_isBlock_5 : decode cX1_isBlock 5 = .ok (.bipush 32, 2) := by decide +kernel
theorem dX1_isBlock_7 : decode cX1_isBlock 7 = .ok (.aload_n 0, 1) := by decide +kernel
theorem dX1_isBlock_8 : decode cX1_isBlock 8 = .ok (.getfield 17, 3) := by decide +kernel
theorem dX1_isBlock_11 : decode cX1_isBlock 11 = .ok (.imul, 1) := by decide +kernel
theorem dX1_isBlock_12 : decode cX1_isBlock 12 = .ok (.if_icmp .ge 7, 3) := by decide +kernel
theorem dX1_isBlock_15 : decode cX1_isBlock 15 = .ok (.iconst 1, 1) := by decide +kernel
theorem dX1_isBlock_16 : decode cX1_isBlock 16 = .ok (.goto 4, 3) := by decide +kernel
theorem dX1_isBlock_19 : decode cX1_isBlock 19 = .ok (.iconst 0, 1) := by decide +kernel
theorem dX1_isBlock_20 : decode cX1_isBlock 20 = .ok (.ireturn, 1) := by decide +kernel
theorem dX1_search_0 : decode cX1_search 0 = .ok (.iconst 1, 1) := by decide +kernel
theorem dX1_search_1 : decode cX1_search 1 = .ok (.iload_n 2, 1) := by decide +kernel
theorem dX1_search_2 : decode cX1_search 2 = .ok (.ishl, 1) := by decide +kernel
theorem dX1_search_3 : decode cX1_search 3 = .ok (.istore 4, 2) := by decide +kernel
theorem dX1_search_5 : decode cX1_search 5 = .ok (.iload_n 3, 1) := by decide +kernel
theorem dX1_search_6 : decode cX1_search 6 = .ok (.iload 4, 2) := by decide +kernel
theorem dX1_search_8 : decode cX1_search 8 = .ok (.iadd, 1) := by decide +kernel
theorem dX1_search_9 : decode cX1_search 9 = .ok (.iconst 1, 1) := by decide +kernel
theorem dX1_search_10 : decode cX1_search 10 = .ok (.isub, 1) := by decide +kernel
theorem dX1_search_11 : decode cX1_search 11 = .ok (.iload_n 2, 1) := by decide +kernel
theorem dX1_search_12 : decode cX1_search 12 = .ok (.ishr, 1) := by decide +kernel
theorem dX1_search_13 : decode cX1_search 13 = .ok (.iload_n 2, 1) := by decide +kernel
theorem dX1_search_14 : decode cX1_search 14 = .ok (.ishl, 1) := by decide +kernel
theorem dX1_search_15 : decode cX1_search 15 = .ok (.istore 5, 2) := by decide +kernel
theorem dX1_search_17 : decode cX1_search 17 = .ok (.aload_n 0, 1) := by decide +kernel
theorem dX1_search_18 : decode cX1_search 18 = .ok (.bipush 32, 2) := by decide +kernel
theorem dX1_search_20 : decode cX1_search 20 = .ok (.putfield 39, 3) := by decide +kernel
theorem dX1_search_23 : decode cX1_search 23 = .ok (.iload_n 2, 1) := by decide +kernel
theorem dX1_search_24 : decode cX1_search 24 = .ok (.istore 6, 2) := by decide +kernel
theorem dX1_search_26 : decode cX1_search 26 = .ok (.iload 6, 2) := by decide +kernel
theorem dX1_search_28 : decode cX1_search 28 = .ok (.bipush 6, 2) := by decide +kernel
theorem dX1_search_30 : decode cX1_search 30 = .ok (.if_icmp .ge 108, 3) := by decide +kernel
theorem dX1_search_33 : decode cX1_search 33 = .ok (.aload_n 0, 1) := by decide +kernel
theorem dX1_search_34 : decode cX1_search 34 = .ok (.getfield 7, 3) := by decide +kernel
theorem dX1_search_37 : decode cX1_search 37 = .ok (.bipush 6, 2) := by decide +kernel
theorem dX1_search_39 : decode cX1_search 39 = .ok (.iload_n 1, 1) := by decide +kernel
theorem dX1_search_40 : decode cX1_search 40 = .ok (.imul, 1) := by decide +kernel
theorem dX1_search_41 : decode cX1_search 41 = .ok (.iload 6, 2) := by decide +kernel
theorem dX1_search_43 : decode cX1_search 43 = .ok (.iadd, 1) := by decide +kernel
theorem dX1_search_44 : decode cX1_search 44 = .ok (.iaload, 1) := by decide +kernel
theorem dX1_search_45 : decode cX1_search 45 = .ok (.istore 7, 2) := by decide +kernel
theorem dX1_search_47 : decode cX1_search 47 = .ok (.iconst 0, 1) := by decide +kernel
theorem dX1_search_48 : decode cX1_search 48 = .ok (.istore 8, 2) := by decide +kernel
theorem dX1_search_50 : decode cX1_search 50 = .ok (.iload 8, 2) := by decide +kernel
theorem dX1_search_52 : decode cX1_search 52 = .ok (.iload 6, 2) := by decide +kernel
theorem dX1_search_54 : decode cX1_search 54 = .ok (.ishl, 1) := by decide +kernel
theorem dX1_search_55 : decode cX1_search 55 = .ok (.bipush 32, 2) := by decide +kernel
theorem dX1_search_57 : decode cX1_search 57 = .ok (.if_icmp .ge 75, 3) := by decide +kernel
theorem dX1_search_60 : decode cX1_search 60 = .ok (.iload 7, 2) := by decide +kernel
theorem dX1_search_62 : decode cX1_search 62 = .ok (.iload 8, 2) := by decide +kernel
theorem dX1_search_64 : decode cX1_search 64 = .ok (.iushr, 1) := by decide +kernel
theorem dX1_search_65 : decode cX1_search 65 = .ok (.iconst 1, 1) := by decide +kernel
theorem dX1_search_66 : decode cX1_search 66 = .ok (.iand, 1) := by decide +kernel
theorem dX1_search_67 : decode cX1_search 67 = .ok (.ifCond .ne 6, 3) := by decide +kernel
theorem dX1_search_70 : decode cX1_search 70 = .ok (.goto 56, 3) := by decide +kernel
theorem dX1_search_73 : decode cX1_search 73 = .ok (.iload 8, 2) := by decide +kernel
theorem dX1_search_75 : decode cX1_search 75 = .ok (.iload 6, 2) := by decide +kernel
theorem dX1_search_77 : decode cX1_search 77 = .ok (.ishl, 1) := by decide +kernel
theorem dX1_search_78 : decode cX1_search 78 = .ok (.istore 9, 2) := by decide +kernel
theorem dX1_search_80 : decode cX1_search 80 = .ok (.iload 9, 2) := by decide +kernel
theorem dX1_search_82 : decode cX1_search 82 = .ok (.iload 5, 2) := by decide +kernel
theorem dX1_search_84 : decode cX1_search 84 = .ok (.if_icmp .le 8, 3) := by decide +kernel
theorem dX1_search_87 : decode cX1_search 87 = .ok (.iload 9, 2) := by decide +kernel
theorem dX1_search_89 : decode cX1_search 89 = .ok (.goto 5, 3) := by decide +kernel
theorem dX1_search_92 : decode cX1_search 92 = .ok (.iload 5, 2) := by decide +kernel
theorem dX1_search_94 : decode cX1_search 94 = .ok (.istore 10, 2) := by decide +kernel
theorem dX1_search_96 : decode cX1_search 96 = .ok (.iload 10, 2) := by decide +kernel
theorem dX1_search_98 : decode cX1_search 98 = .ok (.iload 4, 2) := by decide +kernel
theorem dX1_search_100 : decode cX1_search 100 = .ok (.iadd, 1) := by decide +kernel
theorem dX1_search_101 : decode cX1_search 101 = .ok (.iload 9, 2) := by decide +kernel
theorem dX1_search_103 : decode cX1_search 103 = .ok (.iconst 1, 1) := by decide +kernel
theorem dX1_search_104 : decode cX1_search 104 = .ok (.iload 6, 2) := by decide +kernel
theorem dX1_search_106 : decode cX1_search 106 = .ok (.ishl, 1) := by decide +kernel
theorem dX1_search_107 : decode cX1_search 107 = .ok (.iadd, 1) := by decide +kernel
theorem dX1_search_108 : decode cX1_search 108 = .ok (.if_icmp .gt 18, 3) := by decide +kernel
theorem dX1_search_111 : decode cX1_search 111 = .ok (.iload 10, 2) := by decide +kernel
theorem dX1_search_113 : decode cX1_search 113 = .ok (.aload_n 0, 1) := by decide +kernel
theorem dX1_search_114 : decode cX1_search 114 = .ok (.getfield 39, 3) := by decide +kernel
theorem dX1_search_117 : decode cX1_search 117 = .ok (.if_icmp .ge 9, 3) := by decide +kernel
theorem dX1_search_120 : decode cX1_search 120 = .ok (.aload_n 0, 1) := by decide +kernel
theorem dX1_search_121 : decode cX1_search 121 = .ok (.iload 10, 2) := by decide +kernel
theorem dX1_search_123 : decode cX1_search 123 = .ok (.putfield 39, 3) := by decide +kernel
theorem dX1_search_126 : decode cX1_search 126 = .ok (.iinc 8 1, 3) := by decide +kernel
theorem dX1_search_129 : decode cX1_search 129 = .ok (.goto (-79), 3) := by decide +kernel
theorem dX1_search_132 : decode cX1_search 132 = .ok (.iinc 6 1, 3) := by decide +kernel
theorem dX1_search_135 : decode cX1_search 135 = .ok (.goto (-109), 3) := by decide +kernel
theorem dX1_search_138 : decode cX1_search 138 = .ok (.aload_n 0, 1) := by decide +kernel
theorem dX1_search_139 : decode cX1_search 139 = .ok (.getfield 39, 3) := by decide +kernel
theorem dX1_search_142 : decode cX1_search 142 = .ok (.bipush 32, 2) := by decide +kernel
theorem dX1_search_144 : decode cX1_search 144 = .ok (.if_icmp .ge 7, 3) := by decide +kernel
theorem dX1_search_147 : decode cX1_search 147 = .ok (.iconst 1, 1) := by decide +kernel
theorem dX1_search_148 : decode cX1_search 148 = .ok (.goto 4, 3) := by decide +kernel
theorem dX1_search_151 : decode cX1_search 151 = .ok (.iconst 0, 1) := by decide +kernel
theorem dX1_search_152 : decode cX1_search 152 = .ok (.ireturn, 1) := by decide +kernel
theorem dX1_occupy_0 : decode cX1_occupy 0 = .ok (.bipush 32, 2) := by decide +kernel
theorem dX1_occupy_2 : decode cX1_occupy 2 = .ok (.iload_n 1, 1) := by decide +kernel
theorem dX1_occupy_3 : decode cX1_occupy 3 = .ok (.imul, 1) := by decide +kernel
theorem dX1_occupy_4 : decode cX1_occupy 4 = .ok (.aload_n 0, 1) := by decide +kernel
theorem dX1_occupy_5 : decode cX1_occupy 5 = .ok (.getfield 39, 3) := by decide +kernel
theorem dX1_occupy_8 : decode cX1_occupy 8 = .ok (.iadd, 1) := by decide +kernel
theorem dX1_occupy_9 : decode cX1_occupy 9 = .ok (.istore_n 3, 1) := by decide +kernel
theorem dX1_occupy_10 : decode cX1_occupy 10 = .ok (.aload_n 0, 1) := by decide +kernel
theorem dX1_occupy_11 : decode cX1_occupy 11 = .ok (.iload_n 1, 1) := by decide +kernel
theorem dX1_occupy_12 : decode cX1_occupy 12 = .ok (.iload_n 2, 1) := by decide +kernel
theorem dX1_occupy_13 : decode cX1_occupy 13 = .ok (.aload_n 0, 1) := by decide +kernel
theorem dX1_occupy_14 : decode cX1_occupy 14 = .ok (.getfield 39, 3) := by decide +kernel
theorem dX1_occupy_17 : decode cX1_occupy 17 = .ok (.invokevirtual 42, 3) := by decide +kernel
theorem dX1_occupy_20 : decode cX1_occupy 20 = .ok (.aload_n 0, 1) := by decide +kernel
theorem dX1_occupy_21 : decode cX1_occupy 21 = .ok (.getfield 13, 3) := by decide +kernel
theorem dX1_occupy_24 : decode cX1_occupy 24 = .ok (.iload_n 3, 1) := by decide +kernel
theorem dX1_occupy_25 : decode cX1_occupy 25 = .ok (.iload_n 2, 1) := by decide +kernel
theorem dX1_occupy_26 : decode cX1_occupy 26 = .ok (.i2b, 1) := by decide +kernel
theorem dX1_occupy_27 : decode cX1_occupy 27 = .ok (.bastore, 1) := by decide +kernel
theorem dX1_occupy_28 : decode cX1_occupy 28 = .ok (.aload_n 0, 1) := by decide +kernel
theorem dX1_occupy_29 : decode cX1_occupy 29 = .ok (.dup, 1) := by decide +kernel
theorem dX1_occupy_30 : decode cX1_occupy 30 = .ok (.getfield 46, 3) := by decide +kernel
theorem dX1_occupy_33 : decode cX1_occupy 33 = .ok (.iconst 1, 1) := by decide +kernel
theorem dX1_occupy_34 : decode cX1_occupy 34 = .ok (.iadd, 1) := by decide +kernel
theorem dX1_occupy_35 : decode cX1_occupy 35 = .ok (.putfield 46, 3) := by decide +kernel
theorem dX1_occupy_38 : decode cX1_occupy 38 = .ok (.iload_n 3, 1) := by decide +kernel
theorem dX1_occupy_39 : decode cX1_occupy 39 = .ok (.ireturn, 1) := by decide +kernel
theorem dX1_carve_0 : decode cX1_carve 0 = .ok (.aload_n 0, 1) := by decide +kernel
theorem dX1_carve_1 : decode cX1_carve 1 = .ok (.iload_n 1, 1) := by decide +kernel
theorem dX1_carve_2 : decode cX1_carve 2 = .ok (.iload_n 3, 1) := by decide +kernel
theorem dX1_carve_3 : decode cX1_carve 3 = .ok (.invokevirtual 58, 3) := by decide +kernel
theorem dX1_carve_6 : decode cX1_carve 6 = .ok (.istore 4, 2) := by decide +kernel
theorem dX1_carve_8 : decode cX1_carve 8 = .ok (.aload_n 0, 1) := by decide +kernel
theorem dX1_carve_9 : decode cX1_carve 9 = .ok (.getfield 7, 3) := by decide +kernel
theorem dX1_carve_12 : decode cX1_carve 12 = .ok (.bipush 6, 2) := by decide +kernel
theorem dX1_carve_14 : decode cX1_carve 14 = .ok (.iload_n 1, 1) := by decide +kernel
theorem dX1_carve_15 : decode cX1_carve 15 = .ok (.imul, 1) := by decide +kernel
theorem dX1_carve_16 : decode cX1_carve 16 = .ok (.iload 4, 2) := by decide +kernel
theorem dX1_carve_18 : decode cX1_carve 18 = .ok (.iadd, 1) := by decide +kernel
theorem dX1_carve_19 : decode cX1_carve 19 = .ok (.dup2, 1) := by decide +kernel
theorem dX1_carve_20 : decode cX1_carve 20 = .ok (.iaload, 1) := by decide +kernel
theorem dX1_carve_21 : decode cX1_carve 21 = .ok (.iconst 1, 1) := by decide +kernel
theorem dX1_carve_22 : decode cX1_carve 22 = .ok (.iload_n 3, 1) := by decide +kernel
theorem dX1_carve_23 : decode cX1_carve 23 = .ok (.iload 4, 2) := by decide +kernel
theorem dX1_carve_25 : decode cX1_carve 25 = .ok (.ishr, 1) := by decide +kernel
theorem dX1_carve_26 : decode cX1_carve 26 = .ok (.ishl, 1) := by decide +kernel
theorem dX1_carve_27 : decode cX1_carve 27 = .ok (.iconst (-1), 1) := by decide +kernel
theorem dX1_carve_28 : decode cX1_carve 28 = .ok (.ixor, 1) := by decide +kernel
theorem dX1_carve_29 : decode cX1_carve 29 = .ok (.iand, 1) := by decide +kernel
theorem dX1_carve_30 : decode cX1_carve 30 = .ok (.iastore, 1) := by decide +kernel
theorem dX1_carve_31 : decode cX1_carve 31 = .ok (.iload 4, 2) := by decide +kernel
theorem dX1_carve_33 : decode cX1_carve 33 = .ok (.iload_n 2, 1) := by decide +kernel
theorem dX1_carve_34 : decode cX1_carve 34 = .ok (.if_icmp .le 36, 3) := by decide +kernel
theorem dX1_carve_37 : decode cX1_carve 37 = .ok (.iinc 4 (-1), 3) := by decide +kernel
theorem dX1_carve_40 : decode cX1_carve 40 = .ok (.iload_n 3, 1) := by decide +kernel
theorem dX1_carve_41 : decode cX1_carve 41 = .ok (.iload 4, 2) := by decide +kernel
theorem dX1_carve_43 : decode cX1_carve 43 = .ok (.ishr, 1) := by decide +kernel
theorem dX1_carve_44 : decode cX1_carve 44 = .ok (.iconst 1, 1) := by decide +kernel
theorem dX1_carve_45 : decode cX1_carve 45 = .ok (.ixor, 1) := by decide +kernel
theorem dX1_carve_46 : decode cX1_carve 46 = .ok (.istore 5, 2) := by decide +kernel
theorem dX1_carve_48 : decode cX1_carve 48 = .ok (.aload_n 0, 1) := by decide +kernel
theorem dX1_carve_49 : decode cX1_carve 49 = .ok (.getfield 7, 3) := by decide +kernel
theorem dX1_carve_52 : decode cX1_carve 52 = .ok (.bipush 6, 2) := by decide +kernel
theorem dX1_carve_54 : decode cX1_carve 54 = .ok (.iload_n 1, 1) := by decide +kernel
theorem dX1_carve_55 : decode cX1_carve 55 = .ok (.imul, 1) := by decide +kernel
theorem dX1_carve_56 : decode cX1_carve 56 = .ok (.iload 4, 2) := by decide +kernel
theorem dX1_carve_58 : decode cX1_carve 58 = .ok (.iadd, 1) := by decide +kernel
theorem dX1_carve_59 : decode cX1_carve 59 = .ok (.dup2, 1) := by decide +kernel
theorem dX1_carve_60 : decode cX1_carve 60 = .ok (.iaload, 1) := by decide +kernel
theorem dX1_carve_61 : decode cX1_carve 61 = .ok (.iconst 1, 1) := by decide +kernel
theorem dX1_carve_62 : decode cX1_carve 62 = .ok (.iload 5, 2) := by decide +kernel
theorem dX1_carve_64 : decode cX1_carve 64 = .ok (.ishl, 1) := by decide +kernel
theorem dX1_carve_65 : decode cX1_carve 65 = .ok (.ior, 1) := by decide +kernel
theorem dX1_carve_66 : decode cX1_carve 66 = .ok (.iastore, 1) := by decide +kernel
theorem dX1_carve_67 : decode cX1_carve 67 = .ok (.goto (-36), 3) := by decide +kernel
theorem dX1_carve_70 : decode cX1_carve 70 = .ok (.return_, 1) := by decide +kernel
theorem dX1_freeOrderAround_0 : decode cX1_freeOrderAround 0 = .ok (.iconst 0, 1) := by decide +kernel
theorem dX1_freeOrderAround_1 : decode cX1_freeOrderAround 1 = .ok (.istore_n 3, 1) := by decide +kernel
theorem dX1_freeOrderAround_2 : decode cX1_freeOrderAround 2 = .ok (.iload_n 3, 1) := by decide +kernel
theorem dX1_freeOrderAround_3 : decode cX1_freeOrderAround 3 = .ok (.bipush 6, 2) := by decide +kernel
theorem dX1_freeOrderAround_5 : decode cX1_freeOrderAround 5 = .ok (.if_icmp .ge 31, 3) := by decide +kernel
theorem dX1_freeOrderAround_8 : decode cX1_freeOrderAround 8 = .ok (.aload_n 0, 1) := by decide +kernel
theorem dX1_freeOrderAround_9 : decode cX1_freeOrderAround 9 = .ok (.getfield 7, 3) := by decide +kernel
theorem dX1_freeOrderAround_12 : decode cX1_freeOrderAround 12 = .ok (.bipush 6, 2) := by decide +kernel
theorem dX1_freeOrderAround_14 : decode cX1_freeOrderAround 14 = .ok (.iload_n 1, 1) := by decide +kernel
theorem dX1_freeOrderAround_15 : decode cX1_freeOrderAround 15 = .ok (.imul, 1) := by decide +kernel
theorem dX1_freeOrderAround_16 : decode cX1_freeOrderAround 16 = .ok (.iload_n 3, 1) := by decide +kernel
theorem dX1_freeOrderAround_17 : decode cX1_freeOrderAround 17 = .ok (.iadd, 1) := by decide +kernel
theorem dX1_freeOrderAround_18 : decode cX1_freeOrderAround 18 = .ok (.iaload, 1) := by decide +kernel
theorem dX1_freeOrderAround_19 : decode cX1_freeOrderAround 19 = .ok (.iload_n 2, 1) := by decide +kernel
theorem dX1_freeOrderAround_20 : decode cX1_freeOrderAround 20 = .ok (.iload_n 3, 1) := by decide +kernel
theorem dX1_freeOrderAround_21 : decode cX1_freeOrderAround 21 = .ok (.ishr, 1) := by decide +kernel
theorem dX1_freeOrderAround_22 : decode cX1_freeOrderAround 22 = .ok (.iushr, 1) := by decide +kernel
theorem dX1_freeOrderAround_23 : decode cX1_freeOrderAround 23 = .ok (.iconst 1, 1) := by decide +kernel
theorem dX1_freeOrderAround_24 : decode cX1_freeOrderAround 24 = .ok (.iand, 1) := by decide +kernel
theorem dX1_freeOrderAround_25 : decode cX1_freeOrderAround 25 = .ok (.ifCond .eq 5, 3) := by decide +kernel
theorem dX1_freeOrderAround_28 : decode cX1_freeOrderAround 28 = .ok (.iload_n 3, 1) := by decide +kernel
theorem dX1_freeOrderAround_29 : decode cX1_freeOrderAround 29 = .ok (.ireturn, 1) := by decide +kernel
theorem dX1_freeOrderAround_30 : decode cX1_freeOrderAround 30 = .ok (.iinc 3 1, 3) := by decide +kernel
theorem dX1_freeOrderAround_33 : decode cX1_freeOrderAround 33 = .ok (.goto (-31), 3) := by decide +kernel
theorem dX1_freeOrderAround_36 : decode cX1_freeOrderAround 36 = .ok (.iconst (-1), 1) := by decide +kernel
theorem dX1_freeOrderAround_37 : decode cX1_freeOrderAround 37 = .ok (.ireturn, 1) := by decide +kernel
theorem dX1_claim_0 : decode cX1_claim 0 = .ok (.aload_n 0, 1) := by decide +kernel
theorem dX1_claim_1 : decode cX1_claim 1 = .ok (.iload_n 1, 1) := by decide +kernel
theorem dX1_claim_2 : decode cX1_claim 2 = .ok (.invokevirtual 21, 3) := by decide +kernel
theorem dX1_claim_5 : decode cX1_claim 5 = .ok (.ifCond .eq 11, 3) := by decide +kernel
theorem dX1_claim_8 : decode cX1_claim 8 = .ok (.aload_n 0, 1) := by decide +kernel
theorem dX1_claim_9 : decode cX1_claim 9 = .ok (.iload_n 2, 1) := by decide +kernel
theorem dX1_claim_10 : decode cX1_claim 10 = .ok (.invokevirtual 25, 3) := by decide +kernel
theorem dX1_claim_13 : decode cX1_claim 13 = .ok (.ifCond .ne 5, 3) := by decide +kernel
theorem dX1_claim_16 : decode cX1_claim 16 = .ok (.iconst (-1), 1) := by decide +kernel
theorem dX1_claim_17 : decode cX1_claim 17 = .ok (.ireturn, 1) := by decide +kernel
theorem dX1_claim_18 : decode cX1_claim 18 = .ok (.iload_n 2, 1) := by decide +kernel
theorem dX1_claim_19 : decode cX1_claim 19 = .ok (.iconst 1, 1) := by decide +kernel
theorem dX1_claim_20 : decode cX1_claim 20 = .ok (.iload_n 1, 1) := by decide +kernel
theorem dX1_claim_21 : decode cX1_claim 21 = .ok (.ishl, 1) := by decide +kernel
theorem dX1_claim_22 : decode cX1_claim 22 = .ok (.iconst 1, 1) := by decide +kernel
theorem dX1_claim_23 : decode cX1_claim 23 = .ok (.isub, 1) := by decide +kernel
theorem dX1_claim_24 : decode cX1_claim 24 = .ok (.iand, 1) := by decide +kernel
theorem dX1_claim_25 : decode cX1_claim 25 = .ok (.ifCond .eq 5, 3) := by decide +kernel
theorem dX1_claim_28 : decode cX1_claim 28 = .ok (.iconst (-1), 1) := by decide +kernel
theorem dX1_claim_29 : decode cX1_claim 29 = .ok (.ireturn, 1) := by decide +kernel
theorem dX1_claim_30 : decode cX1_claim 30 = .ok (.aload_n 0, 1) := by decide +kernel
theorem dX1_claim_31 : decode cX1_claim 31 = .ok (.iload_n 2, 1) := by decide +kernel
theorem dX1_claim_32 : decode cX1_claim 32 = .ok (.iconst 5, 1) := by decide +kernel
theorem dX1_claim_33 : decode cX1_claim 33 = .ok (.ishr, 1) := by decide +kernel
theorem dX1_claim_34 : decode cX1_claim 34 = .ok (.iload_n 1, 1) := by decide +kernel
theorem dX1_claim_35 : decode cX1_claim 35 = .ok (.iload_n 2, 1) := by decide +kernel
theorem dX1_claim_36 : decode cX1_claim 36 = .ok (.bipush 31, 2) := by decide +kernel
theorem dX1_claim_38 : decode cX1_claim 38 = .ok (.iand, 1) := by decide +kernel
theorem dX1_claim_39 : decode cX1_claim 39 = .ok (.invokevirtual 36, 3) := by decide +kernel
theorem dX1_claim_42 : decode cX1_claim 42 = .ok (.ifCond .ne 6, 3) := by decide +kernel
theorem dX1_claim_45 : decode cX1_claim 45 = .ok (.bipush (-2), 2) := by decide +kernel
theorem dX1_claim_47 : decode cX1_claim 47 = .ok (.ireturn, 1) := by decide +kernel
theorem dX1_claim_48 : decode cX1_claim 48 = .ok (.aload_n 0, 1) := by decide +kernel
theorem dX1_claim_49 : decode cX1_claim 49 = .ok (.iload_n 2, 1) := by decide +kernel
theorem dX1_claim_50 : decode cX1_claim 50 = .ok (.bipush 31, 2) := by decide +kernel
theorem dX1_claim_52 : decode cX1_claim 52 = .ok (.iand, 1) := by decide +kernel
theorem dX1_claim_53 : decode cX1_claim 53 = .ok (.putfield 39, 3) := by decide +kernel
theorem dX1_claim_56 : decode cX1_claim 56 = .ok (.aload_n 0, 1) := by decide +kernel
theorem dX1_claim_57 : decode cX1_claim 57 = .ok (.iload_n 2, 1) := by decide +kernel
theorem dX1_claim_58 : decode cX1_claim 58 = .ok (.iconst 5, 1) := by decide +kernel
theorem dX1_claim_59 : decode cX1_claim 59 = .ok (.ishr, 1) := by decide +kernel
end
section
set_option maxRecDepth 100000
theorem dX1_claim_60 : decode cX1_claim 60 = .ok (.iload_n 1, 1) := by decide +kernel
theorem dX1_claim_61 : decode cX1_claim 61 = .ok (.invokevirtual 32, 3) := by decide +kernel
theorem dX1_claim_64 : decode cX1_claim 64 = .ok (.ireturn, 1) := by decide +kernel
theorem dX1_isFreeRun_0 : decode cX1_isFreeRun 0 = .ok (.aload_n 0, 1) := by decide +kernel
theorem dX1_isFreeRun_1 : decode cX1_isFreeRun 1 = .ok (.iload_n 1, 1) := by decide +kernel
theorem dX1_isFreeRun_2 : decode cX1_isFreeRun 2 = .ok (.iload_n 3, 1) := by decide +kernel
theorem dX1_isFreeRun_3 : decode cX1_isFreeRun 3 = .ok (.invokevirtual 58, 3) := by decide +kernel
theorem dX1_isFreeRun_6 : decode cX1_isFreeRun 6 = .ok (.istore 4, 2) := by decide +kernel
theorem dX1_isFreeRun_8 : decode cX1_isFreeRun 8 = .ok (.iload 4, 2) := by decide +kernel
theorem dX1_isFreeRun_10 : decode cX1_isFreeRun 10 = .ok (.iload_n 2, 1) := by decide +kernel
theorem dX1_isFreeRun_11 : decode cX1_isFreeRun 11 = .ok (.if_icmp .lt 7, 3) := by decide +kernel
theorem dX1_isFreeRun_14 : decode cX1_isFreeRun 14 = .ok (.iconst 1, 1) := by decide +kernel
theorem dX1_isFreeRun_15 : decode cX1_isFreeRun 15 = .ok (.goto 4, 3) := by decide +kernel
theorem dX1_isFreeRun_18 : decode cX1_isFreeRun 18 = .ok (.iconst 0, 1) := by decide +kernel
theorem dX1_isFreeRun_19 : decode cX1_isFreeRun 19 = .ok (.ireturn, 1) := by decide +kernel
theorem dX1_release_0 : decode cX1_release 0 = .ok (.aload_n 0, 1) := by decide +kernel
theorem dX1_release_1 : decode cX1_release 1 = .ok (.iload_n 1, 1) := by decide +kernel
theorem dX1_release_2 : decode cX1_release 2 = .ok (.invokevirtual 49, 3) := by decide +kernel
theorem dX1_release_5 : decode cX1_release 5 = .ok (.ifCond .ne 5, 3) := by decide +kernel
theorem dX1_release_8 : decode cX1_release 8 = .ok (.iconst (-1), 1) := by decide +kernel
theorem dX1_release_9 : decode cX1_release 9 = .ok (.ireturn, 1) := by decide +kernel
theorem dX1_release_10 : decode cX1_release 10 = .ok (.aload_n 0, 1) := by decide +kernel
theorem dX1_release_11 : decode cX1_release 11 = .ok (.getfield 13, 3) := by decide +kernel
theorem dX1_release_14 : decode cX1_release 14 = .ok (.iload_n 1, 1) := by decide +kernel
theorem dX1_release_15 : decode cX1_release 15 = .ok (.baload, 1) := by decide +kernel
theorem dX1_release_16 : decode cX1_release 16 = .ok (.istore_n 2, 1) := by decide +kernel
theorem dX1_release_17 : decode cX1_release 17 = .ok (.aload_n 0, 1) := by decide +kernel
theorem dX1_release_18 : decode cX1_release 18 = .ok (.iload_n 1, 1) := by decide +kernel
theorem dX1_release_19 : decode cX1_release 19 = .ok (.iconst 5, 1) := by decide +kernel
theorem dX1_release_20 : decode cX1_release 20 = .ok (.ishr, 1) := by decide +kernel
theorem dX1_release_21 : decode cX1_release 21 = .ok (.iload_n 2, 1) := by decide +kernel
theorem dX1_release_22 : decode cX1_release 22 = .ok (.iload_n 1, 1) := by decide +kernel
theorem dX1_release_23 : decode cX1_release 23 = .ok (.bipush 31, 2) := by decide +kernel
theorem dX1_release_25 : decode cX1_release 25 = .ok (.iand, 1) := by decide +kernel
theorem dX1_release_26 : decode cX1_release 26 = .ok (.invokevirtual 52, 3) := by decide +kernel
theorem dX1_release_29 : decode cX1_release 29 = .ok (.aload_n 0, 1) := by decide +kernel
theorem dX1_release_30 : decode cX1_release 30 = .ok (.getfield 13, 3) := by decide +kernel
theorem dX1_release_33 : decode cX1_release 33 = .ok (.iload_n 1, 1) := by decide +kernel
theorem dX1_release_34 : decode cX1_release 34 = .ok (.iconst (-1), 1) := by decide +kernel
theorem dX1_release_35 : decode cX1_release 35 = .ok (.bastore, 1) := by decide +kernel
theorem dX1_release_36 : decode cX1_release 36 = .ok (.aload_n 0, 1) := by decide +kernel
theorem dX1_release_37 : decode cX1_release 37 = .ok (.dup, 1) := by decide +kernel
theorem dX1_release_38 : decode cX1_release 38 = .ok (.getfield 46, 3) := by decide +kernel
theorem dX1_release_41 : decode cX1_release 41 = .ok (.iconst 1, 1) := by decide +kernel
theorem dX1_release_42 : decode cX1_release 42 = .ok (.isub, 1) := by decide +kernel
theorem dX1_release_43 : decode cX1_release 43 = .ok (.putfield 46, 3) := by decide +kernel
theorem dX1_release_46 : decode cX1_release 46 = .ok (.iload_n 2, 1) := by decide +kernel
theorem dX1_release_47 : decode cX1_release 47 = .ok (.ireturn, 1) := by decide +kernel
theorem dX1_isExtent_0 : decode cX1_isExtent 0 = .ok (.aload_n 0, 1) := by decide +kernel
theorem dX1_isExtent_1 : decode cX1_isExtent 1 = .ok (.iload_n 1, 1) := by decide +kernel
theorem dX1_isExtent_2 : decode cX1_isExtent 2 = .ok (.invokevirtual 25, 3) := by decide +kernel
theorem dX1_isExtent_5 : decode cX1_isExtent 5 = .ok (.ifCond .eq 16, 3) := by decide +kernel
theorem dX1_isExtent_8 : decode cX1_isExtent 8 = .ok (.aload_n 0, 1) := by decide +kernel
theorem dX1_isExtent_9 : decode cX1_isExtent 9 = .ok (.getfield 13, 3) := by decide +kernel
theorem dX1_isExtent_12 : decode cX1_isExtent 12 = .ok (.iload_n 1, 1) := by decide +kernel
theorem dX1_isExtent_13 : decode cX1_isExtent 13 = .ok (.baload, 1) := by decide +kernel
theorem dX1_isExtent_14 : decode cX1_isExtent 14 = .ok (.ifCond .lt 7, 3) := by decide +kernel
theorem dX1_isExtent_17 : decode cX1_isExtent 17 = .ok (.iconst 1, 1) := by decide +kernel
theorem dX1_isExtent_18 : decode cX1_isExtent 18 = .ok (.goto 4, 3) := by decide +kernel
theorem dX1_isExtent_21 : decode cX1_isExtent 21 = .ok (.iconst 0, 1) := by decide +kernel
theorem dX1_isExtent_22 : decode cX1_isExtent 22 = .ok (.ireturn, 1) := by decide +kernel
theorem dX1_giveBack_0 : decode cX1_giveBack 0 = .ok (.iload_n 2, 1) := by decide +kernel
theorem dX1_giveBack_1 : decode cX1_giveBack 1 = .ok (.istore 4, 2) := by decide +kernel
theorem dX1_giveBack_3 : decode cX1_giveBack 3 = .ok (.iload_n 3, 1) := by decide +kernel
theorem dX1_giveBack_4 : decode cX1_giveBack 4 = .ok (.iload_n 2, 1) := by decide +kernel
theorem dX1_giveBack_5 : decode cX1_giveBack 5 = .ok (.ishr, 1) := by decide +kernel
theorem dX1_giveBack_6 : decode cX1_giveBack 6 = .ok (.istore 5, 2) := by decide +kernel
theorem dX1_giveBack_8 : decode cX1_giveBack 8 = .ok (.iload 4, 2) := by decide +kernel
theorem dX1_giveBack_10 : decode cX1_giveBack 10 = .ok (.iconst 5, 1) := by decide +kernel
theorem dX1_giveBack_11 : decode cX1_giveBack 11 = .ok (.if_icmp .ge 60, 3) := by decide +kernel
theorem dX1_giveBack_14 : decode cX1_giveBack 14 = .ok (.aload_n 0, 1) := by decide +kernel
theorem dX1_giveBack_15 : decode cX1_giveBack 15 = .ok (.getfield 7, 3) := by decide +kernel
theorem dX1_giveBack_18 : decode cX1_giveBack 18 = .ok (.bipush 6, 2) := by decide +kernel
theorem dX1_giveBack_20 : decode cX1_giveBack 20 = .ok (.iload_n 1, 1) := by decide +kernel
theorem dX1_giveBack_21 : decode cX1_giveBack 21 = .ok (.imul, 1) := by decide +kernel
theorem dX1_giveBack_22 : decode cX1_giveBack 22 = .ok (.iload 4, 2) := by decide +kernel
theorem dX1_giveBack_24 : decode cX1_giveBack 24 = .ok (.iadd, 1) := by decide +kernel
theorem dX1_giveBack_25 : decode cX1_giveBack 25 = .ok (.iaload, 1) := by decide +kernel
theorem dX1_giveBack_26 : decode cX1_giveBack 26 = .ok (.iload 5, 2) := by decide +kernel
theorem dX1_giveBack_28 : decode cX1_giveBack 28 = .ok (.iconst 1, 1) := by decide +kernel
theorem dX1_giveBack_29 : decode cX1_giveBack 29 = .ok (.ixor, 1) := by decide +kernel
theorem dX1_giveBack_30 : decode cX1_giveBack 30 = .ok (.iushr, 1) := by decide +kernel
theorem dX1_giveBack_31 : decode cX1_giveBack 31 = .ok (.iconst 1, 1) := by decide +kernel
theorem dX1_giveBack_32 : decode cX1_giveBack 32 = .ok (.iand, 1) := by decide +kernel
theorem dX1_giveBack_33 : decode cX1_giveBack 33 = .ok (.ifCond .eq 38, 3) := by decide +kernel
theorem dX1_giveBack_36 : decode cX1_giveBack 36 = .ok (.aload_n 0, 1) := by decide +kernel
theorem dX1_giveBack_37 : decode cX1_giveBack 37 = .ok (.getfield 7, 3) := by decide +kernel
theorem dX1_giveBack_40 : decode cX1_giveBack 40 = .ok (.bipush 6, 2) := by decide +kernel
theorem dX1_giveBack_42 : decode cX1_giveBack 42 = .ok (.iload_n 1, 1) := by decide +kernel
theorem dX1_giveBack_43 : decode cX1_giveBack 43 = .ok (.imul, 1) := by decide +kernel
theorem dX1_giveBack_44 : decode cX1_giveBack 44 = .ok (.iload 4, 2) := by decide +kernel
theorem dX1_giveBack_46 : decode cX1_giveBack 46 = .ok (.iadd, 1) := by decide +kernel
theorem dX1_giveBack_47 : decode cX1_giveBack 47 = .ok (.dup2, 1) := by decide +kernel
theorem dX1_giveBack_48 : decode cX1_giveBack 48 = .ok (.iaload, 1) := by decide +kernel
theorem dX1_giveBack_49 : decode cX1_giveBack 49 = .ok (.iconst 1, 1) := by decide +kernel
theorem dX1_giveBack_50 : decode cX1_giveBack 50 = .ok (.iload 5, 2) := by decide +kernel
theorem dX1_giveBack_52 : decode cX1_giveBack 52 = .ok (.iconst 1, 1) := by decide +kernel
theorem dX1_giveBack_53 : decode cX1_giveBack 53 = .ok (.ixor, 1) := by decide +kernel
theorem dX1_giveBack_54 : decode cX1_giveBack 54 = .ok (.ishl, 1) := by decide +kernel
theorem dX1_giveBack_55 : decode cX1_giveBack 55 = .ok (.iconst (-1), 1) := by decide +kernel
theorem dX1_giveBack_56 : decode cX1_giveBack 56 = .ok (.ixor, 1) := by decide +kernel
theorem dX1_giveBack_57 : decode cX1_giveBack 57 = .ok (.iand, 1) := by decide +kernel
theorem dX1_giveBack_58 : decode cX1_giveBack 58 = .ok (.iastore, 1) := by decide +kernel
theorem dX1_giveBack_59 : decode cX1_giveBack 59 = .ok (.iload 5, 2) := by decide +kernel
theorem dX1_giveBack_61 : decode cX1_giveBack 61 = .ok (.iconst 1, 1) := by decide +kernel
theorem dX1_giveBack_62 : decode cX1_giveBack 62 = .ok (.ishr, 1) := by decide +kernel
theorem dX1_giveBack_63 : decode cX1_giveBack 63 = .ok (.istore 5, 2) := by decide +kernel
theorem dX1_giveBack_65 : decode cX1_giveBack 65 = .ok (.iinc 4 1, 3) := by decide +kernel
theorem dX1_giveBack_68 : decode cX1_giveBack 68 = .ok (.goto (-60), 3) := by decide +kernel
theorem dX1_giveBack_71 : decode cX1_giveBack 71 = .ok (.aload_n 0, 1) := by decide +kernel
theorem dX1_giveBack_72 : decode cX1_giveBack 72 = .ok (.getfield 7, 3) := by decide +kernel
theorem dX1_giveBack_75 : decode cX1_giveBack 75 = .ok (.bipush 6, 2) := by decide +kernel
theorem dX1_giveBack_77 : decode cX1_giveBack 77 = .ok (.iload_n 1, 1) := by decide +kernel
theorem dX1_giveBack_78 : decode cX1_giveBack 78 = .ok (.imul, 1) := by decide +kernel
theorem dX1_giveBack_79 : decode cX1_giveBack 79 = .ok (.iload 4, 2) := by decide +kernel
theorem dX1_giveBack_81 : decode cX1_giveBack 81 = .ok (.iadd, 1) := by decide +kernel
theorem dX1_giveBack_82 : decode cX1_giveBack 82 = .ok (.dup2, 1) := by decide +kernel
theorem dX1_giveBack_83 : decode cX1_giveBack 83 = .ok (.iaload, 1) := by decide +kernel
theorem dX1_giveBack_84 : decode cX1_giveBack 84 = .ok (.iconst 1, 1) := by decide +kernel
theorem dX1_giveBack_85 : decode cX1_giveBack 85 = .ok (.iload 5, 2) := by decide +kernel
theorem dX1_giveBack_87 : decode cX1_giveBack 87 = .ok (.ishl, 1) := by decide +kernel
theorem dX1_giveBack_88 : decode cX1_giveBack 88 = .ok (.ior, 1) := by decide +kernel
theorem dX1_giveBack_89 : decode cX1_giveBack 89 = .ok (.iastore, 1) := by decide +kernel
theorem dX1_giveBack_90 : decode cX1_giveBack 90 = .ok (.return_, 1) := by decide +kernel
theorem dX1_grow_0 : decode cX1_grow 0 = .ok (.aload_n 0, 1) := by decide +kernel
theorem dX1_grow_1 : decode cX1_grow 1 = .ok (.iload_n 1, 1) := by decide +kernel
theorem dX1_grow_2 : decode cX1_grow 2 = .ok (.invokevirtual 49, 3) := by decide +kernel
theorem dX1_grow_5 : decode cX1_grow 5 = .ok (.ifCond .ne 5, 3) := by decide +kernel
theorem dX1_grow_8 : decode cX1_grow 8 = .ok (.iconst (-1), 1) := by decide +kernel
theorem dX1_grow_9 : decode cX1_grow 9 = .ok (.ireturn, 1) := by decide +kernel
theorem dX1_grow_10 : decode cX1_grow 10 = .ok (.aload_n 0, 1) := by decide +kernel
theorem dX1_grow_11 : decode cX1_grow 11 = .ok (.getfield 13, 3) := by decide +kernel
theorem dX1_grow_14 : decode cX1_grow 14 = .ok (.iload_n 1, 1) := by decide +kernel
theorem dX1_grow_15 : decode cX1_grow 15 = .ok (.baload, 1) := by decide +kernel
theorem dX1_grow_16 : decode cX1_grow 16 = .ok (.istore_n 2, 1) := by decide +kernel
theorem dX1_grow_17 : decode cX1_grow 17 = .ok (.iload_n 2, 1) := by decide +kernel
theorem dX1_grow_18 : decode cX1_grow 18 = .ok (.iconst 5, 1) := by decide +kernel
theorem dX1_grow_19 : decode cX1_grow 19 = .ok (.if_icmp .eq 11, 3) := by decide +kernel
theorem dX1_grow_22 : decode cX1_grow 22 = .ok (.iload_n 1, 1) := by decide +kernel
theorem dX1_grow_23 : decode cX1_grow 23 = .ok (.iload_n 2, 1) := by decide +kernel
theorem dX1_grow_24 : decode cX1_grow 24 = .ok (.ishr, 1) := by decide +kernel
theorem dX1_grow_25 : decode cX1_grow 25 = .ok (.iconst 1, 1) := by decide +kernel
theorem dX1_grow_26 : decode cX1_grow 26 = .ok (.iand, 1) := by decide +kernel
theorem dX1_grow_27 : decode cX1_grow 27 = .ok (.ifCond .eq 6, 3) := by decide +kernel
theorem dX1_grow_30 : decode cX1_grow 30 = .ok (.bipush (-2), 2) := by decide +kernel
theorem dX1_grow_32 : decode cX1_grow 32 = .ok (.ireturn, 1) := by decide +kernel
theorem dX1_grow_33 : decode cX1_grow 33 = .ok (.iload_n 1, 1) := by decide +kernel
theorem dX1_grow_34 : decode cX1_grow 34 = .ok (.bipush 31, 2) := by decide +kernel
theorem dX1_grow_36 : decode cX1_grow 36 = .ok (.iand, 1) := by decide +kernel
theorem dX1_grow_37 : decode cX1_grow 37 = .ok (.iconst 1, 1) := by decide +kernel
theorem dX1_grow_38 : decode cX1_grow 38 = .ok (.iload_n 2, 1) := by decide +kernel
theorem dX1_grow_39 : decode cX1_grow 39 = .ok (.ishl, 1) := by decide +kernel
theorem dX1_grow_40 : decode cX1_grow 40 = .ok (.iadd, 1) := by decide +kernel
theorem dX1_grow_41 : decode cX1_grow 41 = .ok (.istore_n 3, 1) := by decide +kernel
theorem dX1_grow_42 : decode cX1_grow 42 = .ok (.aload_n 0, 1) := by decide +kernel
theorem dX1_grow_43 : decode cX1_grow 43 = .ok (.iload_n 1, 1) := by decide +kernel
theorem dX1_grow_44 : decode cX1_grow 44 = .ok (.iconst 5, 1) := by decide +kernel
theorem dX1_grow_45 : decode cX1_grow 45 = .ok (.ishr, 1) := by decide +kernel
theorem dX1_grow_46 : decode cX1_grow 46 = .ok (.iload_n 2, 1) := by decide +kernel
theorem dX1_grow_47 : decode cX1_grow 47 = .ok (.iload_n 3, 1) := by decide +kernel
theorem dX1_grow_48 : decode cX1_grow 48 = .ok (.invokevirtual 36, 3) := by decide +kernel
theorem dX1_grow_51 : decode cX1_grow 51 = .ok (.ifCond .ne 6, 3) := by decide +kernel
theorem dX1_grow_54 : decode cX1_grow 54 = .ok (.bipush (-2), 2) := by decide +kernel
theorem dX1_grow_56 : decode cX1_grow 56 = .ok (.ireturn, 1) := by decide +kernel
theorem dX1_grow_57 : decode cX1_grow 57 = .ok (.aload_n 0, 1) := by decide +kernel
theorem dX1_grow_58 : decode cX1_grow 58 = .ok (.iload_n 1, 1) := by decide +kernel
theorem dX1_grow_59 : decode cX1_grow 59 = .ok (.iconst 5, 1) := by decide +kernel
theorem dX1_grow_60 : decode cX1_grow 60 = .ok (.ishr, 1) := by decide +kernel
theorem dX1_grow_61 : decode cX1_grow 61 = .ok (.iload_n 2, 1) := by decide +kernel
theorem dX1_grow_62 : decode cX1_grow 62 = .ok (.iload_n 3, 1) := by decide +kernel
theorem dX1_grow_63 : decode cX1_grow 63 = .ok (.invokevirtual 42, 3) := by decide +kernel
theorem dX1_grow_66 : decode cX1_grow 66 = .ok (.aload_n 0, 1) := by decide +kernel
theorem dX1_grow_67 : decode cX1_grow 67 = .ok (.getfield 13, 3) := by decide +kernel
theorem dX1_grow_70 : decode cX1_grow 70 = .ok (.iload_n 1, 1) := by decide +kernel
theorem dX1_grow_71 : decode cX1_grow 71 = .ok (.iload_n 2, 1) := by decide +kernel
theorem dX1_grow_72 : decode cX1_grow 72 = .ok (.iconst 1, 1) := by decide +kernel
theorem dX1_grow_73 : decode cX1_grow 73 = .ok (.iadd, 1) := by decide +kernel
theorem dX1_grow_74 : decode cX1_grow 74 = .ok (.i2b, 1) := by decide +kernel
theorem dX1_grow_75 : decode cX1_grow 75 = .ok (.bastore, 1) := by decide +kernel
theorem dX1_grow_76 : decode cX1_grow 76 = .ok (.iload_n 2, 1) := by decide +kernel
theorem dX1_grow_77 : decode cX1_grow 77 = .ok (.iconst 1, 1) := by decide +kernel
theorem dX1_grow_78 : decode cX1_grow 78 = .ok (.iadd, 1) := by decide +kernel
theorem dX1_grow_79 : decode cX1_grow 79 = .ok (.ireturn, 1) := by decide +kernel
theorem dX1_halve_0 : decode cX1_halve 0 = .ok (.aload_n 0, 1) := by decide +kernel
theorem dX1_halve_1 : decode cX1_halve 1 = .ok (.iload_n 1, 1) := by decide +kernel
theorem dX1_halve_2 : decode cX1_halve 2 = .ok (.invokevirtual 49, 3) := by decide +kernel
theorem dX1_halve_5 : decode cX1_halve 5 = .ok (.ifCond .ne 5, 3) := by decide +kernel
theorem dX1_halve_8 : decode cX1_halve 8 = .ok (.iconst (-1), 1) := by decide +kernel
theorem dX1_halve_9 : decode cX1_halve 9 = .ok (.ireturn, 1) := by decide +kernel
theorem dX1_halve_10 : decode cX1_halve 10 = .ok (.aload_n 0, 1) := by decide +kernel
theorem dX1_halve_11 : decode cX1_halve 11 = .ok (.getfield 13, 3) := by decide +kernel
theorem dX1_halve_14 : decode cX1_halve 14 = .ok (.iload_n 1, 1) := by decide +kernel
theorem dX1_halve_15 : decode cX1_halve 15 = .ok (.baload, 1) := by decide +kernel
theorem dX1_halve_16 : decode cX1_halve 16 = .ok (.iconst 1, 1) := by decide +kernel
theorem dX1_halve_17 : decode cX1_halve 17 = .ok (.isub, 1) := by decide +kernel
theorem dX1_halve_18 : decode cX1_halve 18 = .ok (.istore_n 2, 1) := by decide +kernel
theorem dX1_halve_19 : decode cX1_halve 19 = .ok (.iload_n 2, 1) := by decide +kernel
theorem dX1_halve_20 : decode cX1_halve 20 = .ok (.ifCond .ge 6, 3) := by decide +kernel
theorem dX1_halve_23 : decode cX1_halve 23 = .ok (.bipush (-2), 2) := by decide +kernel
theorem dX1_halve_25 : decode cX1_halve 25 = .ok (.ireturn, 1) := by decide +kernel
theorem dX1_halve_26 : decode cX1_halve 26 = .ok (.aload_n 0, 1) := by decide +kernel
theorem dX1_halve_27 : decode cX1_halve 27 = .ok (.iload_n 1, 1) := by decide +kernel
theorem dX1_halve_28 : decode cX1_halve 28 = .ok (.iconst 5, 1) := by decide +kernel
theorem dX1_halve_29 : decode cX1_halve 29 = .ok (.ishr, 1) := by decide +kernel
theorem dX1_halve_30 : decode cX1_halve 30 = .ok (.iload_n 2, 1) := by decide +kernel
theorem dX1_halve_31 : decode cX1_halve 31 = .ok (.iload_n 1, 1) := by decide +kernel
theorem dX1_halve_32 : decode cX1_halve 32 = .ok (.bipush 31, 2) := by decide +kernel
theorem dX1_halve_34 : decode cX1_halve 34 = .ok (.iand, 1) := by decide +kernel
theorem dX1_halve_35 : decode cX1_halve 35 = .ok (.iconst 1, 1) := by decide +kernel
theorem dX1_halve_36 : decode cX1_halve 36 = .ok (.iload_n 2, 1) := by decide +kernel
theorem dX1_halve_37 : decode cX1_halve 37 = .ok (.ishl, 1) := by decide +kernel
theorem dX1_halve_38 : decode cX1_halve 38 = .ok (.iadd, 1) := by decide +kernel
theorem dX1_halve_39 : decode cX1_halve 39 = .ok (.invokevirtual 52, 3) := by decide +kernel
theorem dX1_halve_42 : decode cX1_halve 42 = .ok (.aload_n 0, 1) := by decide +kernel
theorem dX1_halve_43 : decode cX1_halve 43 = .ok (.getfield 13, 3) := by decide +kernel
theorem dX1_halve_46 : decode cX1_halve 46 = .ok (.iload_n 1, 1) := by decide +kernel
theorem dX1_halve_47 : decode cX1_halve 47 = .ok (.iload_n 2, 1) := by decide +kernel
theorem dX1_halve_48 : decode cX1_halve 48 = .ok (.i2b, 1) := by decide +kernel
theorem dX1_halve_49 : decode cX1_halve 49 = .ok (.bastore, 1) := by decide +kernel
theorem dX1_halve_50 : decode cX1_halve 50 = .ok (.iload_n 2, 1) := by decide +kernel
theorem dX1_halve_51 : decode cX1_halve 51 = .ok (.ireturn, 1) := by decide +kernel
theorem dX1_extentOf_0 : decode cX1_extentOf 0 = .ok (.aload_n 0, 1) := by decide +kernel
theorem dX1_extentOf_1 : decode cX1_extentOf 1 = .ok (.iload_n 1, 1) := by decide +kernel
theorem dX1_extentOf_2 : decode cX1_extentOf 2 = .ok (.invokevirtual 25, 3) := by decide +kernel
theorem dX1_extentOf_5 : decode cX1_extentOf 5 = .ok (.ifCond .ne 5, 3) := by decide +kernel
theorem dX1_extentOf_8 : decode cX1_extentOf 8 = .ok (.iconst (-1), 1) := by decide +kernel
theorem dX1_extentOf_9 : decode cX1_extentOf 9 = .ok (.ireturn, 1) := by decide +kernel
theorem dX1_extentOf_10 : decode cX1_extentOf 10 = .ok (.iconst 0, 1) := by decide +kernel
theorem dX1_extentOf_11 : decode cX1_extentOf 11 = .ok (.istore_n 2, 1) := by decide +kernel
theorem dX1_extentOf_12 : decode cX1_extentOf 12 = .ok (.iload_n 2, 1) := by decide +kernel
theorem dX1_extentOf_13 : decode cX1_extentOf 13 = .ok (.bipush 6, 2) := by decide +kernel
theorem dX1_extentOf_15 : decode cX1_extentOf 15 = .ok (.if_icmp .ge 27, 3) := by decide +kernel
theorem dX1_extentOf_18 : decode cX1_extentOf 18 = .ok (.iload_n 1, 1) := by decide +kernel
theorem dX1_extentOf_19 : decode cX1_extentOf 19 = .ok (.iload_n 2, 1) := by decide +kernel
theorem dX1_extentOf_20 : decode cX1_extentOf 20 = .ok (.ishr, 1) := by decide +kernel
theorem dX1_extentOf_21 : decode cX1_extentOf 21 = .ok (.iload_n 2, 1) := by decide +kernel
theorem dX1_extentOf_22 : decode cX1_extentOf 22 = .ok (.ishl, 1) := by decide +kernel
theorem dX1_extentOf_23 : decode cX1_extentOf 23 = .ok (.istore_n 3, 1) := by decide +kernel
theorem dX1_extentOf_24 : decode cX1_extentOf 24 = .ok (.aload_n 0, 1) := by decide +kernel
theorem dX1_extentOf_25 : decode cX1_extentOf 25 = .ok (.getfield 13, 3) := by decide +kernel
theorem dX1_extentOf_28 : decode cX1_extentOf 28 = .ok (.iload_n 3, 1) := by decide +kernel
theorem dX1_extentOf_29 : decode cX1_extentOf 29 = .ok (.baload, 1) := by decide +kernel
theorem dX1_extentOf_30 : decode cX1_extentOf 30 = .ok (.iload_n 2, 1) := by decide +kernel
theorem dX1_extentOf_31 : decode cX1_extentOf 31 = .ok (.if_icmp .ne 5, 3) := by decide +kernel
theorem dX1_extentOf_34 : decode cX1_extentOf 34 = .ok (.iload_n 3, 1) := by decide +kernel
theorem dX1_extentOf_35 : decode cX1_extentOf 35 = .ok (.ireturn, 1) := by decide +kernel
theorem dX1_extentOf_36 : decode cX1_extentOf 36 = .ok (.iinc 2 1, 3) := by decide +kernel
theorem dX1_extentOf_39 : decode cX1_extentOf 39 = .ok (.goto (-27), 3) := by decide +kernel
theorem dX1_extentOf_42 : decode cX1_extentOf 42 = .ok (.bipush (-2), 2) := by decide +kernel
theorem dX1_extentOf_44 : decode cX1_extentOf 44 = .ok (.ireturn, 1) := by decide +kernel
theorem dX1_freeBlocks_0 : decode cX1_freeBlocks 0 = .ok (.iload_n 1, 1) := by decide +kernel
theorem dX1_freeBlocks_1 : decode cX1_freeBlocks 1 = .ok (.ifCond .lt 11, 3) := by decide +kernel
theorem dX1_freeBlocks_4 : decode cX1_freeBlocks 4 = .ok (.iload_n 1, 1) := by decide +kernel
theorem dX1_freeBlocks_5 : decode cX1_freeBlocks 5 = .ok (.aload_n 0, 1) := by decide +kernel
theorem dX1_freeBlocks_6 : decode cX1_freeBlocks 6 = .ok (.getfield 17, 3) := by decide +kernel
theorem dX1_freeBlocks_9 : decode cX1_freeBlocks 9 = .ok (.if_icmp .lt 5, 3) := by decide +kernel
theorem dX1_freeBlocks_12 : decode cX1_freeBlocks 12 = .ok (.iconst (-1), 1) := by decide +kernel
theorem dX1_freeBlocks_13 : decode cX1_freeBlocks 13 = .ok (.ireturn, 1) := by decide +kernel
theorem dX1_freeBlocks_14 : decode cX1_freeBlocks 14 = .ok (.aload_n 0, 1) := by decide +kernel
theorem dX1_freeBlocks_15 : decode cX1_freeBlocks 15 = .ok (.iload_n 1, 1) := by decide +kernel
theorem dX1_freeBlocks_16 : decode cX1_freeBlocks 16 = .ok (.iconst 0, 1) := by decide +kernel
theorem dX1_freeBlocks_17 : decode cX1_freeBlocks 17 = .ok (.invokevirtual 55, 3) := by decide +kernel
theorem dX1_freeBlocks_20 : decode cX1_freeBlocks 20 = .ok (.ireturn, 1) := by decide +kernel
theorem dX1_freeIn_0 : decode cX1_freeIn 0 = .ok (.iconst 0, 1) := by decide +kernel
theorem dX1_freeIn_1 : decode cX1_freeIn 1 = .ok (.istore_n 3, 1) := by decide +kernel
theorem dX1_freeIn_2 : decode cX1_freeIn 2 = .ok (.iload_n 2, 1) := by decide +kernel
theorem dX1_freeIn_3 : decode cX1_freeIn 3 = .ok (.istore 4, 2) := by decide +kernel
theorem dX1_freeIn_5 : decode cX1_freeIn 5 = .ok (.iload 4, 2) := by decide +kernel
theorem dX1_freeIn_7 : decode cX1_freeIn 7 = .ok (.bipush 6, 2) := by decide +kernel
theorem dX1_freeIn_9 : decode cX1_freeIn 9 = .ok (.if_icmp .ge 54, 3) := by decide +kernel
theorem dX1_freeIn_12 : decode cX1_freeIn 12 = .ok (.aload_n 0, 1) := by decide +kernel
theorem dX1_freeIn_13 : decode cX1_freeIn 13 = .ok (.getfield 7, 3) := by decide +kernel
theorem dX1_freeIn_16 : decode cX1_freeIn 16 = .ok (.bipush 6, 2) := by decide +kernel
theorem dX1_freeIn_18 : decode cX1_freeIn 18 = .ok (.iload_n 1, 1) := by decide +kernel
theorem dX1_freeIn_19 : decode cX1_freeIn 19 = .ok (.imul, 1) := by decide +kernel
theorem dX1_freeIn_20 : decode cX1_freeIn 20 = .ok (.iload 4, 2) := by decide +kernel
theorem dX1_freeIn_22 : decode cX1_freeIn 22 = .ok (.iadd, 1) := by decide +kernel
theorem dX1_freeIn_23 : decode cX1_freeIn 23 = .ok (.iaload, 1) := by decide +kernel
theorem dX1_freeIn_24 : decode cX1_freeIn 24 = .ok (.istore 5, 2) := by decide +kernel
theorem dX1_freeIn_26 : decode cX1_freeIn 26 = .ok (.iconst 0, 1) := by decide +kernel
theorem dX1_freeIn_27 : decode cX1_freeIn 27 = .ok (.istore 6, 2) := by decide +kernel
theorem dX1_freeIn_29 : decode cX1_freeIn 29 = .ok (.iload 6, 2) := by decide +kernel
theorem dX1_freeIn_31 : decode cX1_freeIn 31 = .ok (.bipush 32, 2) := by decide +kernel
theorem dX1_freeIn_33 : decode cX1_freeIn 33 = .ok (.if_icmp .ge 24, 3) := by decide +kernel
theorem dX1_freeIn_36 : decode cX1_freeIn 36 = .ok (.iload_n 3, 1) := by decide +kernel
theorem dX1_freeIn_37 : decode cX1_freeIn 37 = .ok (.iload 5, 2) := by decide +kernel
theorem dX1_freeIn_39 : decode cX1_freeIn 39 = .ok (.iload 6, 2) := by decide +kernel
theorem dX1_freeIn_41 : decode cX1_freeIn 41 = .ok (.iushr, 1) := by decide +kernel
theorem dX1_freeIn_42 : decode cX1_freeIn 42 = .ok (.iconst 1, 1) := by decide +kernel
theorem dX1_freeIn_43 : decode cX1_freeIn 43 = .ok (.iand, 1) := by decide +kernel
theorem dX1_freeIn_44 : decode cX1_freeIn 44 = .ok (.iload 4, 2) := by decide +kernel
theorem dX1_freeIn_46 : decode cX1_freeIn 46 = .ok (.iload_n 2, 1) := by decide +kernel
theorem dX1_freeIn_47 : decode cX1_freeIn 47 = .ok (.isub, 1) := by decide +kernel
theorem dX1_freeIn_48 : decode cX1_freeIn 48 = .ok (.ishl, 1) := by decide +kernel
theorem dX1_freeIn_49 : decode cX1_freeIn 49 = .ok (.iadd, 1) := by decide +kernel
theorem dX1_freeIn_50 : decode cX1_freeIn 50 = .ok (.istore_n 3, 1) := by decide +kernel
theorem dX1_freeIn_51 : decode cX1_freeIn 51 = .ok (.iinc 6 1, 3) := by decide +kernel
theorem dX1_freeIn_54 : decode cX1_freeIn 54 = .ok (.goto (-25), 3) := by decide +kernel
theorem dX1_freeIn_57 : decode cX1_freeIn 57 = .ok (.iinc 4 1, 3) := by decide +kernel
theorem dX1_freeIn_60 : decode cX1_freeIn 60 = .ok (.goto (-55), 3) := by decide +kernel
theorem dX1_freeIn_63 : decode cX1_freeIn 63 = .ok (.iload_n 3, 1) := by decide +kernel
theorem dX1_freeIn_64 : decode cX1_freeIn 64 = .ok (.ireturn, 1) := by decide +kernel
theorem dX1_largestFree_0 : decode cX1_largestFree 0 = .ok (.iload_n 1, 1) := by decide +kernel
theorem dX1_largestFree_1 : decode cX1_largestFree 1 = .ok (.ifCond .lt 11, 3) := by decide +kernel
theorem dX1_largestFree_4 : decode cX1_largestFree 4 = .ok (.iload_n 1, 1) := by decide +kernel
theorem dX1_largestFree_5 : decode cX1_largestFree 5 = .ok (.aload_n 0, 1) := by decide +kernel
theorem dX1_largestFree_6 : decode cX1_largestFree 6 = .ok (.getfield 17, 3) := by decide +kernel
theorem dX1_largestFree_9 : decode cX1_largestFree 9 = .ok (.if_icmp .lt 5, 3) := by decide +kernel
theorem dX1_largestFree_12 : decode cX1_largestFree 12 = .ok (.iconst (-1), 1) := by decide +kernel
theorem dX1_largestFree_13 : decode cX1_largestFree 13 = .ok (.ireturn, 1) := by decide +kernel
theorem dX1_largestFree_14 : decode cX1_largestFree 14 = .ok (.iconst 5, 1) := by decide +kernel
theorem dX1_largestFree_15 : decode cX1_largestFree 15 = .ok (.istore_n 2, 1) := by decide +kernel
theorem dX1_largestFree_16 : decode cX1_largestFree 16 = .ok (.iload_n 2, 1) := by decide +kernel
theorem dX1_largestFree_17 : decode cX1_largestFree 17 = .ok (.ifCond .lt 25, 3) := by decide +kernel
theorem dX1_largestFree_20 : decode cX1_largestFree 20 = .ok (.aload_n 0, 1) := by decide +kernel
theorem dX1_largestFree_21 : decode cX1_largestFree 21 = .ok (.getfield 7, 3) := by decide +kernel
theorem dX1_largestFree_24 : decode cX1_largestFree 24 = .ok (.bipush 6, 2) := by decide +kernel
theorem dX1_largestFree_26 : decode cX1_largestFree 26 = .ok (.iload_n 1, 1) := by decide +kernel
theorem dX1_largestFree_27 : decode cX1_largestFree 27 = .ok (.imul, 1) := by decide +kernel
theorem dX1_largestFree_28 : decode cX1_largestFree 28 = .ok (.iload_n 2, 1) := by decide +kernel
theorem dX1_largestFree_29 : decode cX1_largestFree 29 = .ok (.iadd, 1) := by decide +kernel
theorem dX1_largestFree_30 : decode cX1_largestFree 30 = .ok (.iaload, 1) := by decide +kernel
theorem dX1_largestFree_31 : decode cX1_largestFree 31 = .ok (.ifCond .eq 5, 3) := by decide +kernel
theorem dX1_largestFree_34 : decode cX1_largestFree 34 = .ok (.iload_n 2, 1) := by decide +kernel
theorem dX1_largestFree_35 : decode cX1_largestFree 35 = .ok (.ireturn, 1) := by decide +kernel
theorem dX1_largestFree_36 : decode cX1_largestFree 36 = .ok (.iinc 2 (-1), 3) := by decide +kernel
theorem dX1_largestFree_39 : decode cX1_largestFree 39 = .ok (.goto (-23), 3) := by decide +kernel
theorem dX1_largestFree_42 : decode cX1_largestFree 42 = .ok (.bipush (-2), 2) := by decide +kernel
theorem dX1_largestFree_44 : decode cX1_largestFree 44 = .ok (.ireturn, 1) := by decide +kernel
theorem dX1_freeRuns_0 : decode cX1_freeRuns 0 = .ok (.aload_n 0, 1) := by decide +kernel
theorem dX1_freeRuns_1 : decode cX1_freeRuns 1 = .ok (.iload_n 1, 1) := by decide +kernel
theorem dX1_freeRuns_2 : decode cX1_freeRuns 2 = .ok (.invokevirtual 21, 3) := by decide +kernel
theorem dX1_freeRuns_5 : decode cX1_freeRuns 5 = .ok (.ifCond .ne 5, 3) := by decide +kernel
theorem dX1_freeRuns_8 : decode cX1_freeRuns 8 = .ok (.iconst (-1), 1) := by decide +kernel
theorem dX1_freeRuns_9 : decode cX1_freeRuns 9 = .ok (.ireturn, 1) := by decide +kernel
theorem dX1_freeRuns_10 : decode cX1_freeRuns 10 = .ok (.iconst 0, 1) := by decide +kernel
theorem dX1_freeRuns_11 : decode cX1_freeRuns 11 = .ok (.istore_n 2, 1) := by decide +kernel
theorem dX1_freeRuns_12 : decode cX1_freeRuns 12 = .ok (.iconst 0, 1) := by decide +kernel
theorem dX1_freeRuns_13 : decode cX1_freeRuns 13 = .ok (.istore_n 3, 1) := by decide +kernel
theorem dX1_freeRuns_14 : decode cX1_freeRuns 14 = .ok (.iload_n 3, 1) := by decide +kernel
theorem dX1_freeRuns_15 : decode cX1_freeRuns 15 = .ok (.aload_n 0, 1) := by decide +kernel
theorem dX1_freeRuns_16 : decode cX1_freeRuns 16 = .ok (.getfield 17, 3) := by decide +kernel
theorem dX1_freeRuns_19 : decode cX1_freeRuns 19 = .ok (.if_icmp .ge 18, 3) := by decide +kernel
theorem dX1_freeRuns_22 : decode cX1_freeRuns 22 = .ok (.iload_n 2, 1) := by decide +kernel
theorem dX1_freeRuns_23 : decode cX1_freeRuns 23 = .ok (.aload_n 0, 1) := by decide +kernel
theorem dX1_freeRuns_24 : decode cX1_freeRuns 24 = .ok (.iload_n 3, 1) := by decide +kernel
theorem dX1_freeRuns_25 : decode cX1_freeRuns 25 = .ok (.iload_n 1, 1) := by decide +kernel
theorem dX1_freeRuns_26 : decode cX1_freeRuns 26 = .ok (.invokevirtual 55, 3) := by decide +kernel
theorem dX1_freeRuns_29 : decode cX1_freeRuns 29 = .ok (.iadd, 1) := by decide +kernel
theorem dX1_freeRuns_30 : decode cX1_freeRuns 30 = .ok (.istore_n 2, 1) := by decide +kernel
theorem dX1_freeRuns_31 : decode cX1_freeRuns 31 = .ok (.iinc 3 1, 3) := by decide +kernel
theorem dX1_freeRuns_34 : decode cX1_freeRuns 34 = .ok (.goto (-20), 3) := by decide +kernel
theorem dX1_freeRuns_37 : decode cX1_freeRuns 37 = .ok (.iload_n 2, 1) := by decide +kernel
theorem dX1_freeRuns_38 : decode cX1_freeRuns 38 = .ok (.ireturn, 1) := by decide +kernel
theorem dX1_extents_0 : decode cX1_extents 0 = .ok (.aload_n 0, 1) := by decide +kernel
theorem dX1_extents_1 : decode cX1_extents 1 = .ok (.getfield 46, 3) := by decide +kernel
theorem dX1_extents_4 : decode cX1_extents 4 = .ok (.ireturn, 1) := by decide +kernel
end
section
set_option maxRecDepth 100000
theorem dX2_init_0 : decode cX2_init 0 = .ok (.aload_n 0, 1) := by decide +kernel
theorem dX2_init_1 : decode cX2_init 1 = .ok (.invokespecial 1, 3) := by decide +kernel
theorem dX2_init_4 : decode cX2_init 4 = .ok (.aload_n 0, 1) := by decide +kernel
theorem dX2_init_5 : decode cX2_init 5 = .ok (.sipush 128, 3) := by decide +kernel
theorem dX2_init_8 : decode cX2_init 8 = .ok (.newarray .int, 2) := by decide +kernel
theorem dX2_init_10 : decode cX2_init 10 = .ok (.putfield 7, 3) := by decide +kernel
theorem dX2_init_13 : decode cX2_init 13 = .ok (.aload_n 0, 1) := by decide +kernel
theorem dX2_init_14 : decode cX2_init 14 = .ok (.sipush 128, 3) := by decide +kernel
theorem dX2_init_17 : decode cX2_init 17 = .ok (.newarray .int, 2) := by decide +kernel
theorem dX2_init_19 : decode cX2_init 19 = .ok (.putfield 13, 3) := by decide +kernel
theorem dX2_init_22 : decode cX2_init 22 = .ok (.aload_n 0, 1) := by decide +kernel
theorem dX2_init_23 : decode cX2_init 23 = .ok (.iload_n 1, 1) := by decide +kernel
theorem dX2_init_24 : decode cX2_init 24 = .ok (.iconst 1, 1) := by decide +kernel
theorem dX2_init_25 : decode cX2_init 25 = .ok (.if_icmp .ge 7, 3) := by decide +kernel
theorem dX2_init_28 : decode cX2_init 28 = .ok (.iconst 1, 1) := by decide +kernel
theorem dX2_init_29 : decode cX2_init 29 = .ok (.goto 13, 3) := by decide +kernel
theorem dX2_init_32 : decode cX2_init 32 = .ok (.iload_n 1, 1) := by decide +kernel
theorem dX2_init_33 : decode cX2_init 33 = .ok (.iconst 4, 1) := by decide +kernel
theorem dX2_init_34 : decode cX2_init 34 = .ok (.if_icmp .le 7, 3) := by decide +kernel
theorem dX2_init_37 : decode cX2_init 37 = .ok (.iconst 4, 1) := by decide +kernel
theorem dX2_init_38 : decode cX2_init 38 = .ok (.goto 4, 3) := by decide +kernel
theorem dX2_init_41 : decode cX2_init 41 = .ok (.iload_n 1, 1) := by decide +kernel
theorem dX2_init_42 : decode cX2_init 42 = .ok (.putfield 16, 3) := by decide +kernel
theorem dX2_init_45 : decode cX2_init 45 = .ok (.iconst 0, 1) := by decide +kernel
theorem dX2_init_46 : decode cX2_init 46 = .ok (.istore_n 2, 1) := by decide +kernel
theorem dX2_init_47 : decode cX2_init 47 = .ok (.iload_n 2, 1) := by decide +kernel
theorem dX2_init_48 : decode cX2_init 48 = .ok (.sipush 128, 3) := by decide +kernel
theorem dX2_init_51 : decode cX2_init 51 = .ok (.if_icmp .ge 16, 3) := by decide +kernel
theorem dX2_init_54 : decode cX2_init 54 = .ok (.aload_n 0, 1) := by decide +kernel
theorem dX2_init_55 : decode cX2_init 55 = .ok (.getfield 7, 3) := by decide +kernel
theorem dX2_init_58 : decode cX2_init 58 = .ok (.iload_n 2, 1) := by decide +kernel
theorem dX2_init_59 : decode cX2_init 59 = .ok (.iconst (-1), 1) := by decide +kernel
theorem dX2_init_60 : decode cX2_init 60 = .ok (.iastore, 1) := by decide +kernel
theorem dX2_init_61 : decode cX2_init 61 = .ok (.iinc 2 1, 3) := by decide +kernel
theorem dX2_init_64 : decode cX2_init 64 = .ok (.goto (-17), 3) := by decide +kernel
theorem dX2_init_67 : decode cX2_init 67 = .ok (.return_, 1) := by decide +kernel
theorem dX2_allocate_0 : decode cX2_allocate 0 = .ok (.aload_n 0, 1) := by decide +kernel
theorem dX2_allocate_1 : decode cX2_allocate 1 = .ok (.iload_n 1, 1) := by decide +kernel
theorem dX2_allocate_2 : decode cX2_allocate 2 = .ok (.invokevirtual 35, 3) := by decide +kernel
theorem dX2_allocate_5 : decode cX2_allocate 5 = .ok (.ifCond .eq 11, 3) := by decide +kernel
theorem dX2_allocate_8 : decode cX2_allocate 8 = .ok (.aload_n 0, 1) := by decide +kernel
theorem dX2_allocate_9 : decode cX2_allocate 9 = .ok (.iload_n 2, 1) := by decide +kernel
theorem dX2_allocate_10 : decode cX2_allocate 10 = .ok (.invokevirtual 20, 3) := by decide +kernel
theorem dX2_allocate_13 : decode cX2_allocate 13 = .ok (.ifCond .ne 5, 3) := by decide +kernel
theorem dX2_allocate_16 : decode cX2_allocate 16 = .ok (.iconst (-1), 1) := by decide +kernel
theorem dX2_allocate_17 : decode cX2_allocate 17 = .ok (.ireturn, 1) := by decide +kernel
theorem dX2_allocate_18 : decode cX2_allocate 18 = .ok (.iload_n 2, 1) := by decide +kernel
theorem dX2_allocate_19 : decode cX2_allocate 19 = .ok (.bipush 32, 2) := by decide +kernel
theorem dX2_allocate_21 : decode cX2_allocate 21 = .ok (.idiv, 1) := by decide +kernel
theorem dX2_allocate_22 : decode cX2_allocate 22 = .ok (.istore_n 3, 1) := by decide +kernel
theorem dX2_allocate_23 : decode cX2_allocate 23 = .ok (.aload_n 0, 1) := by decide +kernel
theorem dX2_allocate_24 : decode cX2_allocate 24 = .ok (.iload_n 1, 1) := by decide +kernel
theorem dX2_allocate_25 : decode cX2_allocate 25 = .ok (.iload_n 2, 1) := by decide +kernel
theorem dX2_allocate_26 : decode cX2_allocate 26 = .ok (.bipush 32, 2) := by decide +kernel
theorem dX2_allocate_28 : decode cX2_allocate 28 = .ok (.iload_n 3, 1) := by decide +kernel
theorem dX2_allocate_29 : decode cX2_allocate 29 = .ok (.imul, 1) := by decide +kernel
theorem dX2_allocate_30 : decode cX2_allocate 30 = .ok (.bipush 32, 2) := by decide +kernel
theorem dX2_allocate_32 : decode cX2_allocate 32 = .ok (.iadd, 1) := by decide +kernel
theorem dX2_allocate_33 : decode cX2_allocate 33 = .ok (.invokevirtual 38, 3) := by decide +kernel
theorem dX2_allocate_36 : decode cX2_allocate 36 = .ok (.istore 4, 2) := by decide +kernel
theorem dX2_allocate_38 : decode cX2_allocate 38 = .ok (.iconst 0, 1) := by decide +kernel
theorem dX2_allocate_39 : decode cX2_allocate 39 = .ok (.istore 5, 2) := by decide +kernel
theorem dX2_allocate_41 : decode cX2_allocate 41 = .ok (.iload 5, 2) := by decide +kernel
theorem dX2_allocate_43 : decode cX2_allocate 43 = .ok (.aload_n 0, 1) := by decide +kernel
theorem dX2_allocate_44 : decode cX2_allocate 44 = .ok (.getfield 16, 3) := by decide +kernel
theorem dX2_allocate_47 : decode cX2_allocate 47 = .ok (.if_icmp .ge 45, 3) := by decide +kernel
theorem dX2_allocate_50 : decode cX2_allocate 50 = .ok (.iload 4, 2) := by decide +kernel
theorem dX2_allocate_52 : decode cX2_allocate 52 = .ok (.ifCond .ge 40, 3) := by decide +kernel
theorem dX2_allocate_55 : decode cX2_allocate 55 = .ok (.iload_n 3, 1) := by decide +kernel
theorem dX2_allocate_56 : decode cX2_allocate 56 = .ok (.iload 5, 2) := by decide +kernel
theorem dX2_allocate_58 : decode cX2_allocate 58 = .ok (.iadd, 1) := by decide +kernel
theorem dX2_allocate_59 : decode cX2_allocate 59 = .ok (.aload_n 0, 1) := by decide +kernel
theorem dX2_allocate_60 : decode cX2_allocate 60 = .ok (.getfield 16, 3) := by decide +kernel
theorem dX2_allocate_63 : decode cX2_allocate 63 = .ok (.irem, 1) := by decide +kernel
theorem dX2_allocate_64 : decode cX2_allocate 64 = .ok (.istore 6, 2) := by decide +kernel
theorem dX2_allocate_66 : decode cX2_allocate 66 = .ok (.aload_n 0, 1) := by decide +kernel
theorem dX2_allocate_67 : decode cX2_allocate 67 = .ok (.iload_n 1, 1) := by decide +kernel
theorem dX2_allocate_68 : decode cX2_allocate 68 = .ok (.bipush 32, 2) := by decide +kernel
theorem dX2_allocate_70 : decode cX2_allocate 70 = .ok (.iload 6, 2) := by decide +kernel
theorem dX2_allocate_72 : decode cX2_allocate 72 = .ok (.imul, 1) := by decide +kernel
theorem dX2_allocate_73 : decode cX2_allocate 73 = .ok (.bipush 32, 2) := by decide +kernel
theorem dX2_allocate_75 : decode cX2_allocate 75 = .ok (.iload 6, 2) := by decide +kernel
theorem dX2_allocate_77 : decode cX2_allocate 77 = .ok (.imul, 1) := by decide +kernel
theorem dX2_allocate_78 : decode cX2_allocate 78 = .ok (.bipush 32, 2) := by decide +kernel
theorem dX2_allocate_80 : decode cX2_allocate 80 = .ok (.iadd, 1) := by decide +kernel
theorem dX2_allocate_81 : decode cX2_allocate 81 = .ok (.invokevirtual 38, 3) := by decide +kernel
theorem dX2_allocate_84 : decode cX2_allocate 84 = .ok (.istore 4, 2) := by decide +kernel
theorem dX2_allocate_86 : decode cX2_allocate 86 = .ok (.iinc 5 1, 3) := by decide +kernel
theorem dX2_allocate_89 : decode cX2_allocate 89 = .ok (.goto (-48), 3) := by decide +kernel
theorem dX2_allocate_92 : decode cX2_allocate 92 = .ok (.iload 4, 2) := by decide +kernel
theorem dX2_allocate_94 : decode cX2_allocate 94 = .ok (.ifCond .ge 8, 3) := by decide +kernel
theorem dX2_allocate_97 : decode cX2_allocate 97 = .ok (.bipush (-2), 2) := by decide +kernel
theorem dX2_allocate_99 : decode cX2_allocate 99 = .ok (.goto 10, 3) := by decide +kernel
theorem dX2_allocate_102 : decode cX2_allocate 102 = .ok (.aload_n 0, 1) := by decide +kernel
theorem dX2_allocate_103 : decode cX2_allocate 103 = .ok (.iload_n 1, 1) := by decide +kernel
theorem dX2_allocate_104 : decode cX2_allocate 104 = .ok (.iload 4, 2) := by decide +kernel
theorem dX2_allocate_106 : decode cX2_allocate 106 = .ok (.invokevirtual 42, 3) := by decide +kernel
theorem dX2_allocate_109 : decode cX2_allocate 109 = .ok (.ireturn, 1) := by decide +kernel
theorem dX2_isOrder_0 : decode cX2_isOrder 0 = .ok (.iload_n 1, 1) := by decide +kernel
theorem dX2_isOrder_1 : decode cX2_isOrder 1 = .ok (.ifCond .lt 12, 3) := by decide +kernel
theorem dX2_isOrder_4 : decode cX2_isOrder 4 = .ok (.iload_n 1, 1) := by decide +kernel
theorem dX2_isOrder_5 : decode cX2_isOrder 5 = .ok (.iconst 5, 1) := by decide +kernel
theorem dX2_isOrder_6 : decode cX2_isOrder 6 = .ok (.if_icmp .gt 7, 3) := by decide +kernel
theorem dX2_isOrder_9 : decode cX2_isOrder 9 = .ok (.iconst 1, 1) := by decide +kernel
theorem dX2_isOrder_10 : decode cX2_isOrder 10 = .ok (.goto 4, 3) := by decide +kernel
theorem dX2_isOrder_13 : decode cX2_isOrder 13 = .ok (.iconst 0, 1) := by decide +kernel
theorem dX2_isOrder_14 : decode cX2_isOrder 14 = .ok (.ireturn, 1) := by decide +kernel
theorem dX2_isBlock_0 : decode cX2_isBlock 0 = .ok (.iload_n 1, 1) := by decide +kernel
theorem dX2_isBlock_1 : decode cX2_isBlock 1 = .ok (.ifCond .lt 18, 3) := by decide +kernel
theorem dX2_isBlock_4 : decode cX2_isBlock 4 = .ok (.iload_n 1, 1) := by decide +kernel
theorem dX2_isBlock_5 : decode cX2_isBlock 5 = .ok (.bipush 32, 2) := by decide +kernel
theorem dX2_isBlock_7 : decode cX2_isBlock 7 = .ok (.aload_n 0, 1) := by decide +kernel
theorem dX2_isBlock_8 : decode cX2_isBlock 8 = .ok (.getfield 16, 3) := by decide +kernel
theorem dX2_isBlock_11 : decode cX2_isBlock 11 = .ok (.imul, 1) := by decide +kernel
theorem dX2_isBlock_12 : decode cX2_isBlock 12 = .ok (.if_icmp .ge 7, 3) := by decide +kernel
theorem dX2_isBlock_15 : decode cX2_isBlock 15 = .ok (.iconst 1, 1) := by decide +kernel
theorem dX2_isBlock_16 : decode cX2_isBlock 16 = .ok (.goto 4, 3) := by decide +kernel
theorem dX2_isBlock_19 : decode cX2_isBlock 19 = .ok (.iconst 0, 1) := by decide +kernel
theorem dX2_isBlock_20 : decode cX2_isBlock 20 = .ok (.ireturn, 1) := by decide +kernel
theorem dX2_search_0 : decode cX2_search 0 = .ok (.iload_n 2, 1) := by decide +kernel
theorem dX2_search_1 : decode cX2_search 1 = .ok (.istore 4, 2) := by decide +kernel
theorem dX2_search_3 : decode cX2_search 3 = .ok (.iload 4, 2) := by decide +kernel
theorem dX2_search_5 : decode cX2_search 5 = .ok (.iload_n 3, 1) := by decide +kernel
theorem dX2_search_6 : decode cX2_search 6 = .ok (.if_icmp .ge 34, 3) := by decide +kernel
theorem dX2_search_9 : decode cX2_search 9 = .ok (.aload_n 0, 1) := by decide +kernel
theorem dX2_search_10 : decode cX2_search 10 = .ok (.iload_n 1, 1) := by decide +kernel
theorem dX2_search_11 : decode cX2_search 11 = .ok (.iload 4, 2) := by decide +kernel
theorem dX2_search_13 : decode cX2_search 13 = .ok (.invokevirtual 28, 3) := by decide +kernel
theorem dX2_search_16 : decode cX2_search 16 = .ok (.ifCond .eq 18, 3) := by decide +kernel
theorem dX2_search_19 : decode cX2_search 19 = .ok (.aload_n 0, 1) := by decide +kernel
theorem dX2_search_20 : decode cX2_search 20 = .ok (.iload 4, 2) := by decide +kernel
theorem dX2_search_22 : decode cX2_search 22 = .ok (.iconst 1, 1) := by decide +kernel
theorem dX2_search_23 : decode cX2_search 23 = .ok (.iload_n 1, 1) := by decide +kernel
theorem dX2_search_24 : decode cX2_search 24 = .ok (.ishl, 1) := by decide +kernel
theorem dX2_search_25 : decode cX2_search 25 = .ok (.invokevirtual 32, 3) := by decide +kernel
theorem dX2_search_28 : decode cX2_search 28 = .ok (.ifCond .eq 6, 3) := by decide +kernel
theorem dX2_search_31 : decode cX2_search 31 = .ok (.iload 4, 2) := by decide +kernel
theorem dX2_search_33 : decode cX2_search 33 = .ok (.ireturn, 1) := by decide +kernel
theorem dX2_search_34 : decode cX2_search 34 = .ok (.iinc 4 1, 3) := by decide +kernel
theorem dX2_search_37 : decode cX2_search 37 = .ok (.goto (-34), 3) := by decide +kernel
theorem dX2_search_40 : decode cX2_search 40 = .ok (.iconst (-1), 1) := by decide +kernel
theorem dX2_search_41 : decode cX2_search 41 = .ok (.ireturn, 1) := by decide +kernel
theorem dX2_isRun_0 : decode cX2_isRun 0 = .ok (.iload_n 2, 1) := by decide +kernel
theorem dX2_isRun_1 : decode cX2_isRun 1 = .ok (.iconst 1, 1) := by decide +kernel
theorem dX2_isRun_2 : decode cX2_isRun 2 = .ok (.iload_n 1, 1) := by decide +kernel
theorem dX2_isRun_3 : decode cX2_isRun 3 = .ok (.ishl, 1) := by decide +kernel
theorem dX2_isRun_4 : decode cX2_isRun 4 = .ok (.irem, 1) := by decide +kernel
theorem dX2_isRun_5 : decode cX2_isRun 5 = .ok (.ifCond .ne 7, 3) := by decide +kernel
theorem dX2_isRun_8 : decode cX2_isRun 8 = .ok (.iconst 1, 1) := by decide +kernel
theorem dX2_isRun_9 : decode cX2_isRun 9 = .ok (.goto 4, 3) := by decide +kernel
theorem dX2_isRun_12 : decode cX2_isRun 12 = .ok (.iconst 0, 1) := by decide +kernel
theorem dX2_isRun_13 : decode cX2_isRun 13 = .ok (.ireturn, 1) := by decide +kernel
theorem dX2_free_0 : decode cX2_free 0 = .ok (.iload_n 1, 1) := by decide +kernel
theorem dX2_free_1 : decode cX2_free 1 = .ok (.istore_n 3, 1) := by decide +kernel
theorem dX2_free_2 : decode cX2_free 2 = .ok (.iload_n 3, 1) := by decide +kernel
theorem dX2_free_3 : decode cX2_free 3 = .ok (.iload_n 1, 1) := by decide +kernel
theorem dX2_free_4 : decode cX2_free 4 = .ok (.iload_n 2, 1) := by decide +kernel
theorem dX2_free_5 : decode cX2_free 5 = .ok (.iadd, 1) := by decide +kernel
theorem dX2_free_6 : decode cX2_free 6 = .ok (.if_icmp .ge 21, 3) := by decide +kernel
theorem dX2_free_9 : decode cX2_free 9 = .ok (.aload_n 0, 1) := by decide +kernel
theorem dX2_free_10 : decode cX2_free 10 = .ok (.getfield 7, 3) := by decide +kernel
theorem dX2_free_13 : decode cX2_free 13 = .ok (.iload_n 3, 1) := by decide +kernel
theorem dX2_free_14 : decode cX2_free 14 = .ok (.iaload, 1) := by decide +kernel
theorem dX2_free_15 : decode cX2_free 15 = .ok (.iconst (-1), 1) := by decide +kernel
theorem dX2_free_16 : decode cX2_free 16 = .ok (.if_icmp .eq 5, 3) := by decide +kernel
theorem dX2_free_19 : decode cX2_free 19 = .ok (.iconst 0, 1) := by decide +kernel
theorem dX2_free_20 : decode cX2_free 20 = .ok (.ireturn, 1) := by decide +kernel
theorem dX2_free_21 : decode cX2_free 21 = .ok (.iinc 3 1, 3) := by decide +kernel
theorem dX2_free_24 : decode cX2_free 24 = .ok (.goto (-22), 3) := by decide +kernel
theorem dX2_free_27 : decode cX2_free 27 = .ok (.iconst 1, 1) := by decide +kernel
theorem dX2_free_28 : decode cX2_free 28 = .ok (.ireturn, 1) := by decide +kernel
theorem dX2_make_0 : decode cX2_make 0 = .ok (.aload_n 0, 1) := by decide +kernel
theorem dX2_make_1 : decode cX2_make 1 = .ok (.iload_n 2, 1) := by decide +kernel
theorem dX2_make_2 : decode cX2_make 2 = .ok (.iconst 1, 1) := by decide +kernel
theorem dX2_make_3 : decode cX2_make 3 = .ok (.iload_n 1, 1) := by decide +kernel
theorem dX2_make_4 : decode cX2_make 4 = .ok (.ishl, 1) := by decide +kernel
theorem dX2_make_5 : decode cX2_make 5 = .ok (.iload_n 2, 1) := by decide +kernel
theorem dX2_make_6 : decode cX2_make 6 = .ok (.invokevirtual 24, 3) := by decide +kernel
theorem dX2_make_9 : decode cX2_make 9 = .ok (.aload_n 0, 1) := by decide +kernel
theorem dX2_make_10 : decode cX2_make 10 = .ok (.getfield 13, 3) := by decide +kernel
theorem dX2_make_13 : decode cX2_make 13 = .ok (.iload_n 2, 1) := by decide +kernel
theorem dX2_make_14 : decode cX2_make 14 = .ok (.iload_n 1, 1) := by decide +kernel
theorem dX2_make_15 : decode cX2_make 15 = .ok (.iastore, 1) := by decide +kernel
theorem dX2_make_16 : decode cX2_make 16 = .ok (.iload_n 2, 1) := by decide +kernel
theorem dX2_make_17 : decode cX2_make 17 = .ok (.ireturn, 1) := by decide +kernel
theorem dX2_fill_0 : decode cX2_fill 0 = .ok (.iload_n 1, 1) := by decide +kernel
theorem dX2_fill_1 : decode cX2_fill 1 = .ok (.istore 4, 2) := by decide +kernel
theorem dX2_fill_3 : decode cX2_fill 3 = .ok (.iload 4, 2) := by decide +kernel
theorem dX2_fill_5 : decode cX2_fill 5 = .ok (.iload_n 1, 1) := by decide +kernel
theorem dX2_fill_6 : decode cX2_fill 6 = .ok (.iload_n 2, 1) := by decide +kernel
theorem dX2_fill_7 : decode cX2_fill 7 = .ok (.iadd, 1) := by decide +kernel
theorem dX2_fill_8 : decode cX2_fill 8 = .ok (.if_icmp .ge 17, 3) := by decide +kernel
theorem dX2_fill_11 : decode cX2_fill 11 = .ok (.aload_n 0, 1) := by decide +kernel
theorem dX2_fill_12 : decode cX2_fill 12 = .ok (.getfield 7, 3) := by decide +kernel
theorem dX2_fill_15 : decode cX2_fill 15 = .ok (.iload 4, 2) := by decide +kernel
theorem dX2_fill_17 : decode cX2_fill 17 = .ok (.iload_n 3, 1) := by decide +kernel
theorem dX2_fill_18 : decode cX2_fill 18 = .ok (.iastore, 1) := by decide +kernel
theorem dX2_fill_19 : decode cX2_fill 19 = .ok (.iinc 4 1, 3) := by decide +kernel
theorem dX2_fill_22 : decode cX2_fill 22 = .ok (.goto (-19), 3) := by decide +kernel
theorem dX2_fill_25 : decode cX2_fill 25 = .ok (.return_, 1) := by decide +kernel
theorem dX2_claim_0 : decode cX2_claim 0 = .ok (.aload_n 0, 1) := by decide +kernel
theorem dX2_claim_1 : decode cX2_claim 1 = .ok (.iload_n 1, 1) := by decide +kernel
theorem dX2_claim_2 : decode cX2_claim 2 = .ok (.invokevirtual 35, 3) := by decide +kernel
theorem dX2_claim_5 : decode cX2_claim 5 = .ok (.ifCond .eq 20, 3) := by decide +kernel
theorem dX2_claim_8 : decode cX2_claim 8 = .ok (.aload_n 0, 1) := by decide +kernel
theorem dX2_claim_9 : decode cX2_claim 9 = .ok (.iload_n 2, 1) := by decide +kernel
theorem dX2_claim_10 : decode cX2_claim 10 = .ok (.invokevirtual 20, 3) := by decide +kernel
theorem dX2_claim_13 : decode cX2_claim 13 = .ok (.ifCond .eq 12, 3) := by decide +kernel
theorem dX2_claim_16 : decode cX2_claim 16 = .ok (.aload_n 0, 1) := by decide +kernel
theorem dX2_claim_17 : decode cX2_claim 17 = .ok (.iload_n 1, 1) := by decide +kernel
theorem dX2_claim_18 : decode cX2_claim 18 = .ok (.iload_n 2, 1) := by decide +kernel
theorem dX2_claim_19 : decode cX2_claim 19 = .ok (.invokevirtual 28, 3) := by decide +kernel
theorem dX2_claim_22 : decode cX2_claim 22 = .ok (.ifCond .ne 5, 3) := by decide +kernel
theorem dX2_claim_25 : decode cX2_claim 25 = .ok (.iconst (-1), 1) := by decide +kernel
theorem dX2_claim_26 : decode cX2_claim 26 = .ok (.ireturn, 1) := by decide +kernel
theorem dX2_claim_27 : decode cX2_claim 27 = .ok (.aload_n 0, 1) := by decide +kernel
theorem dX2_claim_28 : decode cX2_claim 28 = .ok (.iload_n 2, 1) := by decide +kernel
theorem dX2_claim_29 : decode cX2_claim 29 = .ok (.iconst 1, 1) := by decide +kernel
theorem dX2_claim_30 : decode cX2_claim 30 = .ok (.iload_n 1, 1) := by decide +kernel
theorem dX2_claim_31 : decode cX2_claim 31 = .ok (.ishl, 1) := by decide +kernel
theorem dX2_claim_32 : decode cX2_claim 32 = .ok (.invokevirtual 32, 3) := by decide +kernel
theorem dX2_claim_35 : decode cX2_claim 35 = .ok (.ifCond .eq 12, 3) := by decide +kernel
theorem dX2_claim_38 : decode cX2_claim 38 = .ok (.aload_n 0, 1) := by decide +kernel
theorem dX2_claim_39 : decode cX2_claim 39 = .ok (.iload_n 1, 1) := by decide +kernel
theorem dX2_claim_40 : decode cX2_claim 40 = .ok (.iload_n 2, 1) := by decide +kernel
theorem dX2_claim_41 : decode cX2_claim 41 = .ok (.invokevirtual 42, 3) := by decide +kernel
theorem dX2_claim_44 : decode cX2_claim 44 = .ok (.goto 5, 3) := by decide +kernel
theorem dX2_claim_47 : decode cX2_claim 47 = .ok (.bipush (-2), 2) := by decide +kernel
theorem dX2_claim_49 : decode cX2_claim 49 = .ok (.ireturn, 1) := by decide +kernel
theorem dX2_release_0 : decode cX2_release 0 = .ok (.aload_n 0, 1) := by decide +kernel
theorem dX2_release_1 : decode cX2_release 1 = .ok (.iload_n 1, 1) := by decide +kernel
theorem dX2_release_2 : decode cX2_release 2 = .ok (.invokevirtual 46, 3) := by decide +kernel
theorem dX2_release_5 : decode cX2_release 5 = .ok (.ifCond .ne 5, 3) := by decide +kernel
theorem dX2_release_8 : decode cX2_release 8 = .ok (.iconst (-1), 1) := by decide +kernel
theorem dX2_release_9 : decode cX2_release 9 = .ok (.ireturn, 1) := by decide +kernel
theorem dX2_release_10 : decode cX2_release 10 = .ok (.aload_n 0, 1) := by decide +kernel
theorem dX2_release_11 : decode cX2_release 11 = .ok (.iload_n 1, 1) := by decide +kernel
theorem dX2_release_12 : decode cX2_release 12 = .ok (.iconst 1, 1) := by decide +kernel
theorem dX2_release_13 : decode cX2_release 13 = .ok (.aload_n 0, 1) := by decide +kernel
theorem dX2_release_14 : decode cX2_release 14 = .ok (.getfield 13, 3) := by decide +kernel
theorem dX2_release_17 : decode cX2_release 17 = .ok (.iload_n 1, 1) := by decide +kernel
theorem dX2_release_18 : decode cX2_release 18 = .ok (.iaload, 1) := by decide +kernel
theorem dX2_release_19 : decode cX2_release 19 = .ok (.ishl, 1) := by decide +kernel
theorem dX2_release_20 : decode cX2_release 20 = .ok (.iconst (-1), 1) := by decide +kernel
theorem dX2_release_21 : decode cX2_release 21 = .ok (.invokevirtual 24, 3) := by decide +kernel
theorem dX2_release_24 : decode cX2_release 24 = .ok (.aload_n 0, 1) := by decide +kernel
theorem dX2_release_25 : decode cX2_release 25 = .ok (.getfield 13, 3) := by decide +kernel
theorem dX2_release_28 : decode cX2_release 28 = .ok (.iload_n 1, 1) := by decide +kernel
theorem dX2_release_29 : decode cX2_release 29 = .ok (.iaload, 1) := by decide +kernel
theorem dX2_release_30 : decode cX2_release 30 = .ok (.ireturn, 1) := by decide +kernel
theorem dX2_isExtent_0 : decode cX2_isExtent 0 = .ok (.aload_n 0, 1) := by decide +kernel
theorem dX2_isExtent_1 : decode cX2_isExtent 1 = .ok (.iload_n 1, 1) := by decide +kernel
theorem dX2_isExtent_2 : decode cX2_isExtent 2 = .ok (.invokevirtual 20, 3) := by decide +kernel
theorem dX2_isExtent_5 : decode cX2_isExtent 5 = .ok (.ifCond .eq 17, 3) := by decide +kernel
theorem dX2_isExtent_8 : decode cX2_isExtent 8 = .ok (.aload_n 0, 1) := by decide +kernel
theorem dX2_isExtent_9 : decode cX2_isExtent 9 = .ok (.getfield 7, 3) := by decide +kernel
theorem dX2_isExtent_12 : decode cX2_isExtent 12 = .ok (.iload_n 1, 1) := by decide +kernel
theorem dX2_isExtent_13 : decode cX2_isExtent 13 = .ok (.iaload, 1) := by decide +kernel
theorem dX2_isExtent_14 : decode cX2_isExtent 14 = .ok (.iload_n 1, 1) := by decide +kernel
theorem dX2_isExtent_15 : decode cX2_isExtent 15 = .ok (.if_icmp .ne 7, 3) := by decide +kernel
theorem dX2_isExtent_18 : decode cX2_isExtent 18 = .ok (.iconst 1, 1) := by decide +kernel
theorem dX2_isExtent_19 : decode cX2_isExtent 19 = .ok (.goto 4, 3) := by decide +kernel
theorem dX2_isExtent_22 : decode cX2_isExtent 22 = .ok (.iconst 0, 1) := by decide +kernel
theorem dX2_isExtent_23 : decode cX2_isExtent 23 = .ok (.ireturn, 1) := by decide +kernel
theorem dX2_grow_0 : decode cX2_grow 0 = .ok (.aload_n 0, 1) := by decide +kernel
theorem dX2_grow_1 : decode cX2_grow 1 = .ok (.iload_n 1, 1) := by decide +kernel
theorem dX2_grow_2 : decode cX2_grow 2 = .ok (.invokevirtual 46, 3) := by decide +kernel
theorem dX2_grow_5 : decode cX2_grow 5 = .ok (.ifCond .ne 5, 3) := by decide +kernel
theorem dX2_grow_8 : decode cX2_grow 8 = .ok (.iconst (-1), 1) := by decide +kernel
theorem dX2_grow_9 : decode cX2_grow 9 = .ok (.ireturn, 1) := by decide +kernel
theorem dX2_grow_10 : decode cX2_grow 10 = .ok (.aload_n 0, 1) := by decide +kernel
theorem dX2_grow_11 : decode cX2_grow 11 = .ok (.getfield 13, 3) := by decide +kernel
theorem dX2_grow_14 : decode cX2_grow 14 = .ok (.iload_n 1, 1) := by decide +kernel
theorem dX2_grow_15 : decode cX2_grow 15 = .ok (.iaload, 1) := by decide +kernel
theorem dX2_grow_16 : decode cX2_grow 16 = .ok (.istore_n 2, 1) := by decide +kernel
theorem dX2_grow_17 : decode cX2_grow 17 = .ok (.iload_n 2, 1) := by decide +kernel
theorem dX2_grow_18 : decode cX2_grow 18 = .ok (.iconst 5, 1) := by decide +kernel
theorem dX2_grow_19 : decode cX2_grow 19 = .ok (.if_icmp .eq 29, 3) := by decide +kernel
theorem dX2_grow_22 : decode cX2_grow 22 = .ok (.aload_n 0, 1) := by decide +kernel
theorem dX2_grow_23 : decode cX2_grow 23 = .ok (.iload_n 2, 1) := by decide +kernel
theorem dX2_grow_24 : decode cX2_grow 24 = .ok (.iconst 1, 1) := by decide +kernel
theorem dX2_grow_25 : decode cX2_grow 25 = .ok (.iadd, 1) := by decide +kernel
theorem dX2_grow_26 : decode cX2_grow 26 = .ok (.iload_n 1, 1) := by decide +kernel
theorem dX2_grow_27 : decode cX2_grow 27 = .ok (.invokevirtual 28, 3) := by decide +kernel
theorem dX2_grow_30 : decode cX2_grow 30 = .ok (.ifCond .eq 18, 3) := by decide +kernel
theorem dX2_grow_33 : decode cX2_grow 33 = .ok (.aload_n 0, 1) := by decide +kernel
theorem dX2_grow_34 : decode cX2_grow 34 = .ok (.iload_n 1, 1) := by decide +kernel
theorem dX2_grow_35 : decode cX2_grow 35 = .ok (.iconst 1, 1) := by decide +kernel
theorem dX2_grow_36 : decode cX2_grow 36 = .ok (.iload_n 2, 1) := by decide +kernel
theorem dX2_grow_37 : decode cX2_grow 37 = .ok (.ishl, 1) := by decide +kernel
theorem dX2_grow_38 : decode cX2_grow 38 = .ok (.iadd, 1) := by decide +kernel
theorem dX2_grow_39 : decode cX2_grow 39 = .ok (.iconst 1, 1) := by decide +kernel
theorem dX2_grow_40 : decode cX2_grow 40 = .ok (.iload_n 2, 1) := by decide +kernel
theorem dX2_grow_41 : decode cX2_grow 41 = .ok (.ishl, 1) := by decide +kernel
theorem dX2_grow_42 : decode cX2_grow 42 = .ok (.invokevirtual 32, 3) := by decide +kernel
theorem dX2_grow_45 : decode cX2_grow 45 = .ok (.ifCond .ne 6, 3) := by decide +kernel
theorem dX2_grow_48 : decode cX2_grow 48 = .ok (.bipush (-2), 2) := by decide +kernel
theorem dX2_grow_50 : decode cX2_grow 50 = .ok (.ireturn, 1) := by decide +kernel
theorem dX2_grow_51 : decode cX2_grow 51 = .ok (.aload_n 0, 1) := by decide +kernel
theorem dX2_grow_52 : decode cX2_grow 52 = .ok (.iload_n 2, 1) := by decide +kernel
theorem dX2_grow_53 : decode cX2_grow 53 = .ok (.iconst 1, 1) := by decide +kernel
theorem dX2_grow_54 : decode cX2_grow 54 = .ok (.iadd, 1) := by decide +kernel
theorem dX2_grow_55 : decode cX2_grow 55 = .ok (.iload_n 1, 1) := by decide +kernel
theorem dX2_grow_56 : decode cX2_grow 56 = .ok (.invokevirtual 42, 3) := by decide +kernel
theorem dX2_grow_59 : decode cX2_grow 59 = .ok (.pop, 1) := by decide +kernel
theorem dX2_grow_60 : decode cX2_grow 60 = .ok (.iload_n 2, 1) := by decide +kernel
theorem dX2_grow_61 : decode cX2_grow 61 = .ok (.iconst 1, 1) := by decide +kernel
theorem dX2_grow_62 : decode cX2_grow 62 = .ok (.iadd, 1) := by decide +kernel
theorem dX2_grow_63 : decode cX2_grow 63 = .ok (.ireturn, 1) := by decide +kernel
theorem dX2_halve_0 : decode cX2_halve 0 = .ok (.aload_n 0, 1) := by decide +kernel
theorem dX2_halve_1 : decode cX2_halve 1 = .ok (.iload_n 1, 1) := by decide +kernel
theorem dX2_halve_2 : decode cX2_halve 2 = .ok (.invokevirtual 46, 3) := by decide +kernel
theorem dX2_halve_5 : decode cX2_halve 5 = .ok (.ifCond .ne 5, 3) := by decide +kernel
theorem dX2_halve_8 : decode cX2_halve 8 = .ok (.iconst (-1), 1) := by decide +kernel
theorem dX2_halve_9 : decode cX2_halve 9 = .ok (.ireturn, 1) := by decide +kernel
theorem dX2_halve_10 : decode cX2_halve 10 = .ok (.aload_n 0, 1) := by decide +kernel
theorem dX2_halve_11 : decode cX2_halve 11 = .ok (.getfield 13, 3) := by decide +kernel
theorem dX2_halve_14 : decode cX2_halve 14 = .ok (.iload_n 1, 1) := by decide +kernel
theorem dX2_halve_15 : decode cX2_halve 15 = .ok (.iaload, 1) := by decide +kernel
theorem dX2_halve_16 : decode cX2_halve 16 = .ok (.istore_n 2, 1) := by decide +kernel
theorem dX2_halve_17 : decode cX2_halve 17 = .ok (.iload_n 2, 1) := by decide +kernel
theorem dX2_halve_18 : decode cX2_halve 18 = .ok (.ifCond .ne 6, 3) := by decide +kernel
theorem dX2_halve_21 : decode cX2_halve 21 = .ok (.bipush (-2), 2) := by decide +kernel
theorem dX2_halve_23 : decode cX2_halve 23 = .ok (.ireturn, 1) := by decide +kernel
theorem dX2_halve_24 : decode cX2_halve 24 = .ok (.aload_n 0, 1) := by decide +kernel
theorem dX2_halve_25 : decode cX2_halve 25 = .ok (.iload_n 1, 1) := by decide +kernel
theorem dX2_halve_26 : decode cX2_halve 26 = .ok (.iconst 1, 1) := by decide +kernel
theorem dX2_halve_27 : decode cX2_halve 27 = .ok (.iload_n 2, 1) := by decide +kernel
theorem dX2_halve_28 : decode cX2_halve 28 = .ok (.ishl, 1) := by decide +kernel
theorem dX2_halve_29 : decode cX2_halve 29 = .ok (.iconst (-1), 1) := by decide +kernel
theorem dX2_halve_30 : decode cX2_halve 30 = .ok (.invokevirtual 24, 3) := by decide +kernel
theorem dX2_halve_33 : decode cX2_halve 33 = .ok (.aload_n 0, 1) := by decide +kernel
theorem dX2_halve_34 : decode cX2_halve 34 = .ok (.iload_n 2, 1) := by decide +kernel
theorem dX2_halve_35 : decode cX2_halve 35 = .ok (.iconst 1, 1) := by decide +kernel
theorem dX2_halve_36 : decode cX2_halve 36 = .ok (.isub, 1) := by decide +kernel
theorem dX2_halve_37 : decode cX2_halve 37 = .ok (.iload_n 1, 1) := by decide +kernel
theorem dX2_halve_38 : decode cX2_halve 38 = .ok (.invokevirtual 42, 3) := by decide +kernel
theorem dX2_halve_41 : decode cX2_halve 41 = .ok (.pop, 1) := by decide +kernel
theorem dX2_halve_42 : decode cX2_halve 42 = .ok (.iload_n 2, 1) := by decide +kernel
theorem dX2_halve_43 : decode cX2_halve 43 = .ok (.iconst 1, 1) := by decide +kernel
theorem dX2_halve_44 : decode cX2_halve 44 = .ok (.isub, 1) := by decide +kernel
theorem dX2_halve_45 : decode cX2_halve 45 = .ok (.ireturn, 1) := by decide +kernel
theorem dX2_extentOf_0 : decode cX2_extentOf 0 = .ok (.aload_n 0, 1) := by decide +kernel
theorem dX2_extentOf_1 : decode cX2_extentOf 1 = .ok (.iload_n 1, 1) := by decide +kernel
theorem dX2_extentOf_2 : decode cX2_extentOf 2 = .ok (.invokevirtual 20, 3) := by decide +kernel
theorem dX2_extentOf_5 : decode cX2_extentOf 5 = .ok (.ifCond .ne 5, 3) := by decide +kernel
theorem dX2_extentOf_8 : decode cX2_extentOf 8 = .ok (.iconst (-1), 1) := by decide +kernel
theorem dX2_extentOf_9 : decode cX2_extentOf 9 = .ok (.ireturn, 1) := by decide +kernel
theorem dX2_extentOf_10 : decode cX2_extentOf 10 = .ok (.aload_n 0, 1) := by decide +kernel
theorem dX2_extentOf_11 : decode cX2_extentOf 11 = .ok (.getfield 7, 3) := by decide +kernel
theorem dX2_extentOf_14 : decode cX2_extentOf 14 = .ok (.iload_n 1, 1) := by decide +kernel
theorem dX2_extentOf_15 : decode cX2_extentOf 15 = .ok (.iaload, 1) := by decide +kernel
theorem dX2_extentOf_16 : decode cX2_extentOf 16 = .ok (.iconst (-1), 1) := by decide +kernel
theorem dX2_extentOf_17 : decode cX2_extentOf 17 = .ok (.if_icmp .ne 8, 3) := by decide +kernel
theorem dX2_extentOf_20 : decode cX2_extentOf 20 = .ok (.bipush (-2), 2) := by decide +kernel
theorem dX2_extentOf_22 : decode cX2_extentOf 22 = .ok (.goto 9, 3) := by decide +kernel
theorem dX2_extentOf_25 : decode cX2_extentOf 25 = .ok (.aload_n 0, 1) := by decide +kernel
theorem dX2_extentOf_26 : decode cX2_extentOf 26 = .ok (.getfield 7, 3) := by decide +kernel
theorem dX2_extentOf_29 : decode cX2_extentOf 29 = .ok (.iload_n 1, 1) := by decide +kernel
theorem dX2_extentOf_30 : decode cX2_extentOf 30 = .ok (.iaload, 1) := by decide +kernel
theorem dX2_extentOf_31 : decode cX2_extentOf 31 = .ok (.ireturn, 1) := by decide +kernel
theorem dX2_freeBlocks_0 : decode cX2_freeBlocks 0 = .ok (.aload_n 0, 1) := by decide +kernel
theorem dX2_freeBlocks_1 : decode cX2_freeBlocks 1 = .ok (.iload_n 1, 1) := by decide +kernel
theorem dX2_freeBlocks_2 : decode cX2_freeBlocks 2 = .ok (.invokevirtual 49, 3) := by decide +kernel
theorem dX2_freeBlocks_5 : decode cX2_freeBlocks 5 = .ok (.ifCond .ne 5, 3) := by decide +kernel
theorem dX2_freeBlocks_8 : decode cX2_freeBlocks 8 = .ok (.iconst (-1), 1) := by decide +kernel
theorem dX2_freeBlocks_9 : decode cX2_freeBlocks 9 = .ok (.ireturn, 1) := by decide +kernel
theorem dX2_freeBlocks_10 : decode cX2_freeBlocks 10 = .ok (.iconst 0, 1) := by decide +kernel
theorem dX2_freeBlocks_11 : decode cX2_freeBlocks 11 = .ok (.istore_n 2, 1) := by decide +kernel
theorem dX2_freeBlocks_12 : decode cX2_freeBlocks 12 = .ok (.bipush 32, 2) := by decide +kernel
theorem dX2_freeBlocks_14 : decode cX2_freeBlocks 14 = .ok (.iload_n 1, 1) := by decide +kernel
theorem dX2_freeBlocks_15 : decode cX2_freeBlocks 15 = .ok (.imul, 1) := by decide +kernel
theorem dX2_freeBlocks_16 : decode cX2_freeBlocks 16 = .ok (.istore_n 3, 1) := by decide +kernel
theorem dX2_freeBlocks_17 : decode cX2_freeBlocks 17 = .ok (.iload_n 3, 1) := by decide +kernel
theorem dX2_freeBlocks_18 : decode cX2_freeBlocks 18 = .ok (.bipush 32, 2) := by decide +kernel
theorem dX2_freeBlocks_20 : decode cX2_freeBlocks 20 = .ok (.iload_n 1, 1) := by decide +kernel
theorem dX2_freeBlocks_21 : decode cX2_freeBlocks 21 = .ok (.imul, 1) := by decide +kernel
theorem dX2_freeBlocks_22 : decode cX2_freeBlocks 22 = .ok (.bipush 32, 2) := by decide +kernel
theorem dX2_freeBlocks_24 : decode cX2_freeBlocks 24 = .ok (.iadd, 1) := by decide +kernel
theorem dX2_freeBlocks_25 : decode cX2_freeBlocks 25 = .ok (.if_icmp .ge 22, 3) := by decide +kernel
theorem dX2_freeBlocks_28 : decode cX2_freeBlocks 28 = .ok (.aload_n 0, 1) := by decide +kernel
theorem dX2_freeBlocks_29 : decode cX2_freeBlocks 29 = .ok (.getfield 7, 3) := by decide +kernel
theorem dX2_freeBlocks_32 : decode cX2_freeBlocks 32 = .ok (.iload_n 3, 1) := by decide +kernel
theorem dX2_freeBlocks_33 : decode cX2_freeBlocks 33 = .ok (.iaload, 1) := by decide +kernel
theorem dX2_freeBlocks_34 : decode cX2_freeBlocks 34 = .ok (.iconst (-1), 1) := by decide +kernel
theorem dX2_freeBlocks_35 : decode cX2_freeBlocks 35 = .ok (.if_icmp .ne 6, 3) := by decide +kernel
theorem dX2_freeBlocks_38 : decode cX2_freeBlocks 38 = .ok (.iinc 2 1, 3) := by decide +kernel
theorem dX2_freeBlocks_41 : decode cX2_freeBlocks 41 = .ok (.iinc 3 1, 3) := by decide +kernel
theorem dX2_freeBlocks_44 : decode cX2_freeBlocks 44 = .ok (.goto (-27), 3) := by decide +kernel
theorem dX2_freeBlocks_47 : decode cX2_freeBlocks 47 = .ok (.iload_n 2, 1) := by decide +kernel
theorem dX2_freeBlocks_48 : decode cX2_freeBlocks 48 = .ok (.ireturn, 1) := by decide +kernel
theorem dX2_isGroup_0 : decode cX2_isGroup 0 = .ok (.iload_n 1, 1) := by decide +kernel
theorem dX2_isGroup_1 : decode cX2_isGroup 1 = .ok (.ifCond .lt 15, 3) := by decide +kernel
theorem dX2_isGroup_4 : decode cX2_isGroup 4 = .ok (.iload_n 1, 1) := by decide +kernel
theorem dX2_isGroup_5 : decode cX2_isGroup 5 = .ok (.aload_n 0, 1) := by decide +kernel
theorem dX2_isGroup_6 : decode cX2_isGroup 6 = .ok (.getfield 16, 3) := by decide +kernel
theorem dX2_isGroup_9 : decode cX2_isGroup 9 = .ok (.if_icmp .ge 7, 3) := by decide +kernel
theorem dX2_isGroup_12 : decode cX2_isGroup 12 = .ok (.iconst 1, 1) := by decide +kernel
theorem dX2_isGroup_13 : decode cX2_isGroup 13 = .ok (.goto 4, 3) := by decide +kernel
theorem dX2_isGroup_16 : decode cX2_isGroup 16 = .ok (.iconst 0, 1) := by decide +kernel
theorem dX2_isGroup_17 : decode cX2_isGroup 17 = .ok (.ireturn, 1) := by decide +kernel
theorem dX2_largestFree_0 : decode cX2_largestFree 0 = .ok (.aload_n 0, 1) := by decide +kernel
theorem dX2_largestFree_1 : decode cX2_largestFree 1 = .ok (.iload_n 1, 1) := by decide +kernel
theorem dX2_largestFree_2 : decode cX2_largestFree 2 = .ok (.invokevirtual 49, 3) := by decide +kernel
theorem dX2_largestFree_5 : decode cX2_largestFree 5 = .ok (.ifCond .ne 5, 3) := by decide +kernel
theorem dX2_largestFree_8 : decode cX2_largestFree 8 = .ok (.iconst (-1), 1) := by decide +kernel
theorem dX2_largestFree_9 : decode cX2_largestFree 9 = .ok (.ireturn, 1) := by decide +kernel
theorem dX2_largestFree_10 : decode cX2_largestFree 10 = .ok (.iconst 5, 1) := by decide +kernel
theorem dX2_largestFree_11 : decode cX2_largestFree 11 = .ok (.istore_n 2, 1) := by decide +kernel
theorem dX2_largestFree_12 : decode cX2_largestFree 12 = .ok (.iload_n 2, 1) := by decide +kernel
theorem dX2_largestFree_13 : decode cX2_largestFree 13 = .ok (.ifCond .lt 32, 3) := by decide +kernel
theorem dX2_largestFree_16 : decode cX2_largestFree 16 = .ok (.aload_n 0, 1) := by decide +kernel
theorem dX2_largestFree_17 : decode cX2_largestFree 17 = .ok (.iload_n 2, 1) := by decide +kernel
theorem dX2_largestFree_18 : decode cX2_largestFree 18 = .ok (.bipush 32, 2) := by decide +kernel
theorem dX2_largestFree_20 : decode cX2_largestFree 20 = .ok (.iload_n 1, 1) := by decide +kernel
theorem dX2_largestFree_21 : decode cX2_largestFree 21 = .ok (.imul, 1) := by decide +kernel
theorem dX2_largestFree_22 : decode cX2_largestFree 22 = .ok (.bipush 32, 2) := by decide +kernel
theorem dX2_largestFree_24 : decode cX2_largestFree 24 = .ok (.iload_n 1, 1) := by decide +kernel
theorem dX2_largestFree_25 : decode cX2_largestFree 25 = .ok (.imul, 1) := by decide +kernel
theorem dX2_largestFree_26 : decode cX2_largestFree 26 = .ok (.bipush 32, 2) := by decide +kernel
theorem dX2_largestFree_28 : decode cX2_largestFree 28 = .ok (.iadd, 1) := by decide +kernel
theorem dX2_largestFree_29 : decode cX2_largestFree 29 = .ok (.invokevirtual 38, 3) := by decide +kernel
theorem dX2_largestFree_32 : decode cX2_largestFree 32 = .ok (.istore_n 3, 1) := by decide +kernel
theorem dX2_largestFree_33 : decode cX2_largestFree 33 = .ok (.iload_n 3, 1) := by decide +kernel
theorem dX2_largestFree_34 : decode cX2_largestFree 34 = .ok (.ifCond .lt 5, 3) := by decide +kernel
theorem dX2_largestFree_37 : decode cX2_largestFree 37 = .ok (.iload_n 2, 1) := by decide +kernel
theorem dX2_largestFree_38 : decode cX2_largestFree 38 = .ok (.ireturn, 1) := by decide +kernel
theorem dX2_largestFree_39 : decode cX2_largestFree 39 = .ok (.iinc 2 (-1), 3) := by decide +kernel
theorem dX2_largestFree_42 : decode cX2_largestFree 42 = .ok (.goto (-30), 3) := by decide +kernel
theorem dX2_largestFree_45 : decode cX2_largestFree 45 = .ok (.bipush (-2), 2) := by decide +kernel
theorem dX2_largestFree_47 : decode cX2_largestFree 47 = .ok (.ireturn, 1) := by decide +kernel
theorem dX2_freeRuns_0 : decode cX2_freeRuns 0 = .ok (.aload_n 0, 1) := by decide +kernel
theorem dX2_freeRuns_1 : decode cX2_freeRuns 1 = .ok (.iload_n 1, 1) := by decide +kernel
theorem dX2_freeRuns_2 : decode cX2_freeRuns 2 = .ok (.invokevirtual 35, 3) := by decide +kernel
theorem dX2_freeRuns_5 : decode cX2_freeRuns 5 = .ok (.ifCond .ne 5, 3) := by decide +kernel
theorem dX2_freeRuns_8 : decode cX2_freeRuns 8 = .ok (.iconst (-1), 1) := by decide +kernel
theorem dX2_freeRuns_9 : decode cX2_freeRuns 9 = .ok (.ireturn, 1) := by decide +kernel
theorem dX2_freeRuns_10 : decode cX2_freeRuns 10 = .ok (.iconst 0, 1) := by decide +kernel
theorem dX2_freeRuns_11 : decode cX2_freeRuns 11 = .ok (.istore_n 2, 1) := by decide +kernel
theorem dX2_freeRuns_12 : decode cX2_freeRuns 12 = .ok (.iconst 0, 1) := by decide +kernel
theorem dX2_freeRuns_13 : decode cX2_freeRuns 13 = .ok (.istore_n 3, 1) := by decide +kernel
theorem dX2_freeRuns_14 : decode cX2_freeRuns 14 = .ok (.iload_n 3, 1) := by decide +kernel
theorem dX2_freeRuns_15 : decode cX2_freeRuns 15 = .ok (.bipush 32, 2) := by decide +kernel
theorem dX2_freeRuns_17 : decode cX2_freeRuns 17 = .ok (.aload_n 0, 1) := by decide +kernel
theorem dX2_freeRuns_18 : decode cX2_freeRuns 18 = .ok (.getfield 16, 3) := by decide +kernel
theorem dX2_freeRuns_21 : decode cX2_freeRuns 21 = .ok (.imul, 1) := by decide +kernel
theorem dX2_freeRuns_22 : decode cX2_freeRuns 22 = .ok (.if_icmp .ge 32, 3) := by decide +kernel
theorem dX2_freeRuns_25 : decode cX2_freeRuns 25 = .ok (.aload_n 0, 1) := by decide +kernel
theorem dX2_freeRuns_26 : decode cX2_freeRuns 26 = .ok (.iload_n 1, 1) := by decide +kernel
theorem dX2_freeRuns_27 : decode cX2_freeRuns 27 = .ok (.iload_n 3, 1) := by decide +kernel
theorem dX2_freeRuns_28 : decode cX2_freeRuns 28 = .ok (.invokevirtual 28, 3) := by decide +kernel
theorem dX2_freeRuns_31 : decode cX2_freeRuns 31 = .ok (.ifCond .eq 17, 3) := by decide +kernel
theorem dX2_freeRuns_34 : decode cX2_freeRuns 34 = .ok (.aload_n 0, 1) := by decide +kernel
theorem dX2_freeRuns_35 : decode cX2_freeRuns 35 = .ok (.iload_n 3, 1) := by decide +kernel
theorem dX2_freeRuns_36 : decode cX2_freeRuns 36 = .ok (.iconst 1, 1) := by decide +kernel
theorem dX2_freeRuns_37 : decode cX2_freeRuns 37 = .ok (.iload_n 1, 1) := by decide +kernel
theorem dX2_freeRuns_38 : decode cX2_freeRuns 38 = .ok (.ishl, 1) := by decide +kernel
theorem dX2_freeRuns_39 : decode cX2_freeRuns 39 = .ok (.invokevirtual 32, 3) := by decide +kernel
theorem dX2_freeRuns_42 : decode cX2_freeRuns 42 = .ok (.ifCond .eq 6, 3) := by decide +kernel
theorem dX2_freeRuns_45 : decode cX2_freeRuns 45 = .ok (.iinc 2 1, 3) := by decide +kernel
theorem dX2_freeRuns_48 : decode cX2_freeRuns 48 = .ok (.iinc 3 1, 3) := by decide +kernel
theorem dX2_freeRuns_51 : decode cX2_freeRuns 51 = .ok (.goto (-37), 3) := by decide +kernel
theorem dX2_freeRuns_54 : decode cX2_freeRuns 54 = .ok (.iload_n 2, 1) := by decide +kernel
theorem dX2_freeRuns_55 : decode cX2_freeRuns 55 = .ok (.ireturn, 1) := by decide +kernel
theorem dX2_extents_0 : decode cX2_extents 0 = .ok (.iconst 0, 1) := by decide +kernel
theorem dX2_extents_1 : decode cX2_extents 1 = .ok (.istore_n 1, 1) := by decide +kernel
theorem dX2_extents_2 : decode cX2_extents 2 = .ok (.iconst 0, 1) := by decide +kernel
theorem dX2_extents_3 : decode cX2_extents 3 = .ok (.istore_n 2, 1) := by decide +kernel
theorem dX2_extents_4 : decode cX2_extents 4 = .ok (.iload_n 2, 1) := by decide +kernel
theorem dX2_extents_5 : decode cX2_extents 5 = .ok (.bipush 32, 2) := by decide +kernel
theorem dX2_extents_7 : decode cX2_extents 7 = .ok (.aload_n 0, 1) := by decide +kernel
theorem dX2_extents_8 : decode cX2_extents 8 = .ok (.getfield 16, 3) := by decide +kernel
theorem dX2_extents_11 : decode cX2_extents 11 = .ok (.imul, 1) := by decide +kernel
theorem dX2_extents_12 : decode cX2_extents 12 = .ok (.if_icmp .ge 22, 3) := by decide +kernel
theorem dX2_extents_15 : decode cX2_extents 15 = .ok (.aload_n 0, 1) := by decide +kernel
theorem dX2_extents_16 : decode cX2_extents 16 = .ok (.getfield 7, 3) := by decide +kernel
theorem dX2_extents_19 : decode cX2_extents 19 = .ok (.iload_n 2, 1) := by decide +kernel
theorem dX2_extents_20 : decode cX2_extents 20 = .ok (.iaload, 1) := by decide +kernel
theorem dX2_extents_21 : decode cX2_extents 21 = .ok (.iload_n 2, 1) := by decide +kernel
theorem dX2_extents_22 : decode cX2_extents 22 = .ok (.if_icmp .ne 6, 3) := by decide +kernel
theorem dX2_extents_25 : decode cX2_extents 25 = .ok (.iinc 1 1, 3) := by decide +kernel
theorem dX2_extents_28 : decode cX2_extents 28 = .ok (.iinc 2 1, 3) := by decide +kernel
theorem dX2_extents_31 : decode cX2_extents 31 = .ok (.goto (-27), 3) := by decide +kernel
theorem dX2_extents_34 : decode cX2_extents 34 = .ok (.iload_n 1, 1) := by decide +kernel
theorem dX2_extents_35 : decode cX2_extents 35 = .ok (.ireturn, 1) := by decide +kernel
end
section
set_option maxRecDepth 100000
/-! the law's own entry -/
abbrev cL_law : ByteArray := code
theorem dL_law_0 : decode cL_law 0 = .ok (.new 7, 3) := by decide +kernel
theorem dL_law_3 : decode cL_law 3 = .ok (.dup, 1) := by decide +kernel
theorem dL_law_4 : decode cL_law 4 = .ok (.aload_n 0, 1) := by decide +kernel
theorem dL_law_5 : decode cL_law 5 = .ok (.iconst 0, 1) := by decide +kernel
theorem dL_law_6 : decode cL_law 6 = .ok (.invokestatic 9, 3) := by decide +kernel
theorem dL_law_9 : decode cL_law 9 = .ok (.invokespecial 15, 3) := by decide +kernel
theorem dL_law_12 : decode cL_law 12 = .ok (.astore_n 1, 1) := by decide +kernel
theorem dL_law_13 : decode cL_law 13 = .ok (.new 18, 3) := by decide +kernel
theorem dL_law_16 : decode cL_law 16 = .ok (.dup, 1) := by decide +kernel
theorem dL_law_17 : decode cL_law 17 = .ok (.aload_n 0, 1) := by decide +kernel
theorem dL_law_18 : decode cL_law 18 = .ok (.iconst 0, 1) := by decide +kernel
theorem dL_law_19 : decode cL_law 19 = .ok (.invokestatic 9, 3) := by decide +kernel
theorem dL_law_22 : decode cL_law 22 = .ok (.invokespecial 20, 3) := by decide +kernel
theorem dL_law_25 : decode cL_law 25 = .ok (.astore_n 2, 1) := by decide +kernel
theorem dL_law_26 : decode cL_law 26 = .ok (.iconst 1, 1) := by decide +kernel
theorem dL_law_27 : decode cL_law 27 = .ok (.istore_n 3, 1) := by decide +kernel
theorem dL_law_28 : decode cL_law 28 = .ok (.iload_n 3, 1) := by decide +kernel
theorem dL_law_29 : decode cL_law 29 = .ok (.aload_n 0, 1) := by decide +kernel
theorem dL_law_30 : decode cL_law 30 = .ok (.arraylength, 1) := by decide +kernel
theorem dL_law_31 : decode cL_law 31 = .ok (.iconst 3, 1) := by decide +kernel
theorem dL_law_32 : decode cL_law 32 = .ok (.isub, 1) := by decide +kernel
theorem dL_law_33 : decode cL_law 33 = .ok (.if_icmp .gt 309, 3) := by decide +kernel
theorem dL_law_36 : decode cL_law 36 = .ok (.aload_n 0, 1) := by decide +kernel
theorem dL_law_37 : decode cL_law 37 = .ok (.iload_n 3, 1) := by decide +kernel
theorem dL_law_38 : decode cL_law 38 = .ok (.iaload, 1) := by decide +kernel
theorem dL_law_39 : decode cL_law 39 = .ok (.bipush 15, 2) := by decide +kernel
theorem dL_law_41 : decode cL_law 41 = .ok (.iand, 1) := by decide +kernel
theorem dL_law_42 : decode cL_law 42 = .ok (.tableswitch 294 0 9 #[54, 87, 120, 143, 166, 189, 212, 235, 258, 281], 54) := by decide +kernel
theorem dL_law_96 : decode cL_law 96 = .ok (.aload_n 1, 1) := by decide +kernel
theorem dL_law_97 : decode cL_law 97 = .ok (.aload_n 0, 1) := by decide +kernel
theorem dL_law_98 : decode cL_law 98 = .ok (.iload_n 3, 1) := by decide +kernel
theorem dL_law_99 : decode cL_law 99 = .ok (.iconst 1, 1) := by decide +kernel
theorem dL_law_100 : decode cL_law 100 = .ok (.iadd, 1) := by decide +kernel
theorem dL_law_101 : decode cL_law 101 = .ok (.iaload, 1) := by decide +kernel
theorem dL_law_102 : decode cL_law 102 = .ok (.aload_n 0, 1) := by decide +kernel
theorem dL_law_103 : decode cL_law 103 = .ok (.iload_n 3, 1) := by decide +kernel
theorem dL_law_104 : decode cL_law 104 = .ok (.iconst 2, 1) := by decide +kernel
theorem dL_law_105 : decode cL_law 105 = .ok (.iadd, 1) := by decide +kernel
theorem dL_law_106 : decode cL_law 106 = .ok (.iaload, 1) := by decide +kernel
theorem dL_law_107 : decode cL_law 107 = .ok (.invokevirtual 21, 3) := by decide +kernel
theorem dL_law_110 : decode cL_law 110 = .ok (.aload_n 2, 1) := by decide +kernel
theorem dL_law_111 : decode cL_law 111 = .ok (.aload_n 0, 1) := by decide +kernel
theorem dL_law_112 : decode cL_law 112 = .ok (.iload_n 3, 1) := by decide +kernel
theorem dL_law_113 : decode cL_law 113 = .ok (.iconst 1, 1) := by decide +kernel
theorem dL_law_114 : decode cL_law 114 = .ok (.iadd, 1) := by decide +kernel
theorem dL_law_115 : decode cL_law 115 = .ok (.iaload, 1) := by decide +kernel
theorem dL_law_116 : decode cL_law 116 = .ok (.aload_n 0, 1) := by decide +kernel
theorem dL_law_117 : decode cL_law 117 = .ok (.iload_n 3, 1) := by decide +kernel
theorem dL_law_118 : decode cL_law 118 = .ok (.iconst 2, 1) := by decide +kernel
theorem dL_law_119 : decode cL_law 119 = .ok (.iadd, 1) := by decide +kernel
theorem dL_law_120 : decode cL_law 120 = .ok (.iaload, 1) := by decide +kernel
theorem dL_law_121 : decode cL_law 121 = .ok (.invokevirtual 25, 3) := by decide +kernel
theorem dL_law_124 : decode cL_law 124 = .ok (.if_icmp .eq 212, 3) := by decide +kernel
theorem dL_law_127 : decode cL_law 127 = .ok (.iconst 0, 1) := by decide +kernel
theorem dL_law_128 : decode cL_law 128 = .ok (.ireturn, 1) := by decide +kernel
theorem dL_law_129 : decode cL_law 129 = .ok (.aload_n 1, 1) := by decide +kernel
theorem dL_law_130 : decode cL_law 130 = .ok (.aload_n 0, 1) := by decide +kernel
theorem dL_law_131 : decode cL_law 131 = .ok (.iload_n 3, 1) := by decide +kernel
theorem dL_law_132 : decode cL_law 132 = .ok (.iconst 1, 1) := by decide +kernel
theorem dL_law_133 : decode cL_law 133 = .ok (.iadd, 1) := by decide +kernel
theorem dL_law_134 : decode cL_law 134 = .ok (.iaload, 1) := by decide +kernel
theorem dL_law_135 : decode cL_law 135 = .ok (.aload_n 0, 1) := by decide +kernel
theorem dL_law_136 : decode cL_law 136 = .ok (.iload_n 3, 1) := by decide +kernel
theorem dL_law_137 : decode cL_law 137 = .ok (.iconst 2, 1) := by decide +kernel
theorem dL_law_138 : decode cL_law 138 = .ok (.iadd, 1) := by decide +kernel
theorem dL_law_139 : decode cL_law 139 = .ok (.iaload, 1) := by decide +kernel
theorem dL_law_140 : decode cL_law 140 = .ok (.invokevirtual 26, 3) := by decide +kernel
theorem dL_law_143 : decode cL_law 143 = .ok (.aload_n 2, 1) := by decide +kernel
theorem dL_law_144 : decode cL_law 144 = .ok (.aload_n 0, 1) := by decide +kernel
theorem dL_law_145 : decode cL_law 145 = .ok (.iload_n 3, 1) := by decide +kernel
theorem dL_law_146 : decode cL_law 146 = .ok (.iconst 1, 1) := by decide +kernel
theorem dL_law_147 : decode cL_law 147 = .ok (.iadd, 1) := by decide +kernel
theorem dL_law_148 : decode cL_law 148 = .ok (.iaload, 1) := by decide +kernel
theorem dL_law_149 : decode cL_law 149 = .ok (.aload_n 0, 1) := by decide +kernel
theorem dL_law_150 : decode cL_law 150 = .ok (.iload_n 3, 1) := by decide +kernel
theorem dL_law_151 : decode cL_law 151 = .ok (.iconst 2, 1) := by decide +kernel
theorem dL_law_152 : decode cL_law 152 = .ok (.iadd, 1) := by decide +kernel
theorem dL_law_153 : decode cL_law 153 = .ok (.iaload, 1) := by decide +kernel
theorem dL_law_154 : decode cL_law 154 = .ok (.invokevirtual 29, 3) := by decide +kernel
theorem dL_law_157 : decode cL_law 157 = .ok (.if_icmp .eq 179, 3) := by decide +kernel
theorem dL_law_160 : decode cL_law 160 = .ok (.iconst 0, 1) := by decide +kernel
theorem dL_law_161 : decode cL_law 161 = .ok (.ireturn, 1) := by decide +kernel
theorem dL_law_162 : decode cL_law 162 = .ok (.aload_n 1, 1) := by decide +kernel
theorem dL_law_163 : decode cL_law 163 = .ok (.aload_n 0, 1) := by decide +kernel
theorem dL_law_164 : decode cL_law 164 = .ok (.iload_n 3, 1) := by decide +kernel
theorem dL_law_165 : decode cL_law 165 = .ok (.iconst 1, 1) := by decide +kernel
theorem dL_law_166 : decode cL_law 166 = .ok (.iadd, 1) := by decide +kernel
theorem dL_law_167 : decode cL_law 167 = .ok (.iaload, 1) := by decide +kernel
theorem dL_law_168 : decode cL_law 168 = .ok (.invokevirtual 30, 3) := by decide +kernel
theorem dL_law_171 : decode cL_law 171 = .ok (.aload_n 2, 1) := by decide +kernel
theorem dL_law_172 : decode cL_law 172 = .ok (.aload_n 0, 1) := by decide +kernel
theorem dL_law_173 : decode cL_law 173 = .ok (.iload_n 3, 1) := by decide +kernel
theorem dL_law_174 : decode cL_law 174 = .ok (.iconst 1, 1) := by decide +kernel
theorem dL_law_175 : decode cL_law 175 = .ok (.iadd, 1) := by decide +kernel
theorem dL_law_176 : decode cL_law 176 = .ok (.iaload, 1) := by decide +kernel
theorem dL_law_177 : decode cL_law 177 = .ok (.invokevirtual 34, 3) := by decide +kernel
theorem dL_law_180 : decode cL_law 180 = .ok (.if_icmp .eq 156, 3) := by decide +kernel
theorem dL_law_183 : decode cL_law 183 = .ok (.iconst 0, 1) := by decide +kernel
theorem dL_law_184 : decode cL_law 184 = .ok (.ireturn, 1) := by decide +kernel
theorem dL_law_185 : decode cL_law 185 = .ok (.aload_n 1, 1) := by decide +kernel
theorem dL_law_186 : decode cL_law 186 = .ok (.aload_n 0, 1) := by decide +kernel
theorem dL_law_187 : decode cL_law 187 = .ok (.iload_n 3, 1) := by decide +kernel
theorem dL_law_188 : decode cL_law 188 = .ok (.iconst 1, 1) := by decide +kernel
theorem dL_law_189 : decode cL_law 189 = .ok (.iadd, 1) := by decide +kernel
theorem dL_law_190 : decode cL_law 190 = .ok (.iaload, 1) := by decide +kernel
theorem dL_law_191 : decode cL_law 191 = .ok (.invokevirtual 35, 3) := by decide +kernel
theorem dL_law_194 : decode cL_law 194 = .ok (.aload_n 2, 1) := by decide +kernel
theorem dL_law_195 : decode cL_law 195 = .ok (.aload_n 0, 1) := by decide +kernel
theorem dL_law_196 : decode cL_law 196 = .ok (.iload_n 3, 1) := by decide +kernel
theorem dL_law_197 : decode cL_law 197 = .ok (.iconst 1, 1) := by decide +kernel
theorem dL_law_198 : decode cL_law 198 = .ok (.iadd, 1) := by decide +kernel
theorem dL_law_199 : decode cL_law 199 = .ok (.iaload, 1) := by decide +kernel
theorem dL_law_200 : decode cL_law 200 = .ok (.invokevirtual 38, 3) := by decide +kernel
theorem dL_law_203 : decode cL_law 203 = .ok (.if_icmp .eq 133, 3) := by decide +kernel
theorem dL_law_206 : decode cL_law 206 = .ok (.iconst 0, 1) := by decide +kernel
theorem dL_law_207 : decode cL_law 207 = .ok (.ireturn, 1) := by decide +kernel
theorem dL_law_208 : decode cL_law 208 = .ok (.aload_n 1, 1) := by decide +kernel
theorem dL_law_209 : decode cL_law 209 = .ok (.aload_n 0, 1) := by decide +kernel
theorem dL_law_210 : decode cL_law 210 = .ok (.iload_n 3, 1) := by decide +kernel
theorem dL_law_211 : decode cL_law 211 = .ok (.iconst 1, 1) := by decide +kernel
theorem dL_law_212 : decode cL_law 212 = .ok (.iadd, 1) := by decide +kernel
theorem dL_law_213 : decode cL_law 213 = .ok (.iaload, 1) := by decide +kernel
theorem dL_law_214 : decode cL_law 214 = .ok (.invokevirtual 39, 3) := by decide +kernel
theorem dL_law_217 : decode cL_law 217 = .ok (.aload_n 2, 1) := by decide +kernel
theorem dL_law_218 : decode cL_law 218 = .ok (.aload_n 0, 1) := by decide +kernel
theorem dL_law_219 : decode cL_law 219 = .ok (.iload_n 3, 1) := by decide +kernel
theorem dL_law_220 : decode cL_law 220 = .ok (.iconst 1, 1) := by decide +kernel
theorem dL_law_221 : decode cL_law 221 = .ok (.iadd, 1) := by decide +kernel
theorem dL_law_222 : decode cL_law 222 = .ok (.iaload, 1) := by decide +kernel
theorem dL_law_223 : decode cL_law 223 = .ok (.invokevirtual 42, 3) := by decide +kernel
theorem dL_law_226 : decode cL_law 226 = .ok (.if_icmp .eq 110, 3) := by decide +kernel
theorem dL_law_229 : decode cL_law 229 = .ok (.iconst 0, 1) := by decide +kernel
theorem dL_law_230 : decode cL_law 230 = .ok (.ireturn, 1) := by decide +kernel
theorem dL_law_231 : decode cL_law 231 = .ok (.aload_n 1, 1) := by decide +kernel
theorem dL_law_232 : decode cL_law 232 = .ok (.aload_n 0, 1) := by decide +kernel
theorem dL_law_233 : decode cL_law 233 = .ok (.iload_n 3, 1) := by decide +kernel
theorem dL_law_234 : decode cL_law 234 = .ok (.iconst 1, 1) := by decide +kernel
theorem dL_law_235 : decode cL_law 235 = .ok (.iadd, 1) := by decide +kernel
theorem dL_law_236 : decode cL_law 236 = .ok (.iaload, 1) := by decide +kernel
theorem dL_law_237 : decode cL_law 237 = .ok (.invokevirtual 43, 3) := by decide +kernel
theorem dL_law_240 : decode cL_law 240 = .ok (.aload_n 2, 1) := by decide +kernel
theorem dL_law_241 : decode cL_law 241 = .ok (.aload_n 0, 1) := by decide +kernel
theorem dL_law_242 : decode cL_law 242 = .ok (.iload_n 3, 1) := by decide +kernel
theorem dL_law_243 : decode cL_law 243 = .ok (.iconst 1, 1) := by decide +kernel
theorem dL_law_244 : decode cL_law 244 = .ok (.iadd, 1) := by decide +kernel
theorem dL_law_245 : decode cL_law 245 = .ok (.iaload, 1) := by decide +kernel
theorem dL_law_246 : decode cL_law 246 = .ok (.invokevirtual 46, 3) := by decide +kernel
theorem dL_law_249 : decode cL_law 249 = .ok (.if_icmp .eq 87, 3) := by decide +kernel
theorem dL_law_252 : decode cL_law 252 = .ok (.iconst 0, 1) := by decide +kernel
theorem dL_law_253 : decode cL_law 253 = .ok (.ireturn, 1) := by decide +kernel
theorem dL_law_254 : decode cL_law 254 = .ok (.aload_n 1, 1) := by decide +kernel
theorem dL_law_255 : decode cL_law 255 = .ok (.aload_n 0, 1) := by decide +kernel
theorem dL_law_256 : decode cL_law 256 = .ok (.iload_n 3, 1) := by decide +kernel
theorem dL_law_257 : decode cL_law 257 = .ok (.iconst 1, 1) := by decide +kernel
theorem dL_law_258 : decode cL_law 258 = .ok (.iadd, 1) := by decide +kernel
theorem dL_law_259 : decode cL_law 259 = .ok (.iaload, 1) := by decide +kernel
theorem dL_law_260 : decode cL_law 260 = .ok (.invokevirtual 47, 3) := by decide +kernel
theorem dL_law_263 : decode cL_law 263 = .ok (.aload_n 2, 1) := by decide +kernel
theorem dL_law_264 : decode cL_law 264 = .ok (.aload_n 0, 1) := by decide +kernel
theorem dL_law_265 : decode cL_law 265 = .ok (.iload_n 3, 1) := by decide +kernel
theorem dL_law_266 : decode cL_law 266 = .ok (.iconst 1, 1) := by decide +kernel
theorem dL_law_267 : decode cL_law 267 = .ok (.iadd, 1) := by decide +kernel
theorem dL_law_268 : decode cL_law 268 = .ok (.iaload, 1) := by decide +kernel
theorem dL_law_269 : decode cL_law 269 = .ok (.invokevirtual 50, 3) := by decide +kernel
theorem dL_law_272 : decode cL_law 272 = .ok (.if_icmp .eq 64, 3) := by decide +kernel
theorem dL_law_275 : decode cL_law 275 = .ok (.iconst 0, 1) := by decide +kernel
theorem dL_law_276 : decode cL_law 276 = .ok (.ireturn, 1) := by decide +kernel
theorem dL_law_277 : decode cL_law 277 = .ok (.aload_n 1, 1) := by decide +kernel
theorem dL_law_278 : decode cL_law 278 = .ok (.aload_n 0, 1) := by decide +kernel
theorem dL_law_279 : decode cL_law 279 = .ok (.iload_n 3, 1) := by decide +kernel
theorem dL_law_280 : decode cL_law 280 = .ok (.iconst 1, 1) := by decide +kernel
theorem dL_law_281 : decode cL_law 281 = .ok (.iadd, 1) := by decide +kernel
theorem dL_law_282 : decode cL_law 282 = .ok (.iaload, 1) := by decide +kernel
theorem dL_law_283 : decode cL_law 283 = .ok (.invokevirtual 51, 3) := by decide +kernel
theorem dL_law_286 : decode cL_law 286 = .ok (.aload_n 2, 1) := by decide +kernel
theorem dL_law_287 : decode cL_law 287 = .ok (.aload_n 0, 1) := by decide +kernel
theorem dL_law_288 : decode cL_law 288 = .ok (.iload_n 3, 1) := by decide +kernel
theorem dL_law_289 : decode cL_law 289 = .ok (.iconst 1, 1) := by decide +kernel
theorem dL_law_290 : decode cL_law 290 = .ok (.iadd, 1) := by decide +kernel
theorem dL_law_291 : decode cL_law 291 = .ok (.iaload, 1) := by decide +kernel
theorem dL_law_292 : decode cL_law 292 = .ok (.invokevirtual 54, 3) := by decide +kernel
theorem dL_law_295 : decode cL_law 295 = .ok (.if_icmp .eq 41, 3) := by decide +kernel
theorem dL_law_298 : decode cL_law 298 = .ok (.iconst 0, 1) := by decide +kernel
theorem dL_law_299 : decode cL_law 299 = .ok (.ireturn, 1) := by decide +kernel
theorem dL_law_300 : decode cL_law 300 = .ok (.aload_n 1, 1) := by decide +kernel
theorem dL_law_301 : decode cL_law 301 = .ok (.aload_n 0, 1) := by decide +kernel
theorem dL_law_302 : decode cL_law 302 = .ok (.iload_n 3, 1) := by decide +kernel
theorem dL_law_303 : decode cL_law 303 = .ok (.iconst 1, 1) := by decide +kernel
theorem dL_law_304 : decode cL_law 304 = .ok (.iadd, 1) := by decide +kernel
theorem dL_law_305 : decode cL_law 305 = .ok (.iaload, 1) := by decide +kernel
theorem dL_law_306 : decode cL_law 306 = .ok (.invokevirtual 55, 3) := by decide +kernel
theorem dL_law_309 : decode cL_law 309 = .ok (.aload_n 2, 1) := by decide +kernel
theorem dL_law_310 : decode cL_law 310 = .ok (.aload_n 0, 1) := by decide +kernel
theorem dL_law_311 : decode cL_law 311 = .ok (.iload_n 3, 1) := by decide +kernel
theorem dL_law_312 : decode cL_law 312 = .ok (.iconst 1, 1) := by decide +kernel
theorem dL_law_313 : decode cL_law 313 = .ok (.iadd, 1) := by decide +kernel
theorem dL_law_314 : decode cL_law 314 = .ok (.iaload, 1) := by decide +kernel
theorem dL_law_315 : decode cL_law 315 = .ok (.invokevirtual 58, 3) := by decide +kernel
theorem dL_law_318 : decode cL_law 318 = .ok (.if_icmp .eq 18, 3) := by decide +kernel
theorem dL_law_321 : decode cL_law 321 = .ok (.iconst 0, 1) := by decide +kernel
theorem dL_law_322 : decode cL_law 322 = .ok (.ireturn, 1) := by decide +kernel
theorem dL_law_323 : decode cL_law 323 = .ok (.aload_n 1, 1) := by decide +kernel
theorem dL_law_324 : decode cL_law 324 = .ok (.invokevirtual 59, 3) := by decide +kernel
theorem dL_law_327 : decode cL_law 327 = .ok (.aload_n 2, 1) := by decide +kernel
theorem dL_law_328 : decode cL_law 328 = .ok (.invokevirtual 63, 3) := by decide +kernel
theorem dL_law_331 : decode cL_law 331 = .ok (.if_icmp .eq 5, 3) := by decide +kernel
theorem dL_law_334 : decode cL_law 334 = .ok (.iconst 0, 1) := by decide +kernel
theorem dL_law_335 : decode cL_law 335 = .ok (.ireturn, 1) := by decide +kernel
theorem dL_law_336 : decode cL_law 336 = .ok (.iinc 3 3, 3) := by decide +kernel
theorem dL_law_339 : decode cL_law 339 = .ok (.goto (-311), 3) := by decide +kernel
theorem dL_law_342 : decode cL_law 342 = .ok (.iconst 1, 1) := by decide +kernel
theorem dL_law_343 : decode cL_law 343 = .ok (.ireturn, 1) := by decide +kernel
end
section
/-! ===== Int32 by its bits: bt x i ===== -/
def bt (x : Int32) (i : Nat) : Bool := x.toBitVec.getLsbD i
theorem b_ext {x y : Int32} (h : ∀ i, i < 32 → bt x i = bt y i) : x = y := Int32.toBitVec_inj.mp (BitVec.eq_of_getLsbD_eq (fun i hi => h i hi))
theorem b_or (x y : Int32) (i : Nat) : bt (x ||| y) i = (bt x i || bt y i) := by unfold bt; rw [Int32.toBitVec_or, BitVec.getLsbD_or]
theorem b_and (x y : Int32) (i : Nat) : bt (x &&& y) i = (bt x i && bt y i) := by unfold bt; rw [Int32.toBitVec_and, BitVec.getLsbD_and]
theorem b_xor (x y : Int32) (i : Nat) : bt (x ^^^ y) i = (bt x i ^^ bt y i) := by unfold bt; rw [Int32.toBitVec_xor, BitVec.getLsbD_xor]
theorem b_big {x : Int32} {i : Nat} (h : 32 ≤ i) : bt x i = false := BitVec.getLsbD_of_ge _ _ h
theorem b_255 (i : Nat) : bt 255 i = decide (i < 8) := by
  rcases Nat.lt_or_ge i 32 with h | h
  · exact (by decide +kernel : ∀ i, i < 32 → bt 255 i = decide (i < 8)) i h
  · rw [b_big h, decide_eq_false (by omega)]
theorem b_65535 (i : Nat) : bt 65535 i = decide (i < 16) := by
  rcases Nat.lt_or_ge i 32 with h | h
  · exact (by decide +kernel : ∀ i, i < 32 → bt 65535 i = decide (i < 16)) i h
  · rw [b_big h, decide_eq_false (by omega)]
theorem b_m1 : ∀ i, i < 32 → bt (-1) i = true := by decide +kernel
theorem b_0 (i : Nat) : bt 0 i = false := BitVec.getLsbD_zero
theorem s_l : ∀ n, n < 32 → ((nI n &&& 31).toBitVec.smod 32).toNat = n := by decide +kernel
theorem s_u : ∀ n, n < 32 → (((nI n).toUInt32 &&& Int32.toUInt32 31).toBitVec % 32).toNat = n := by decide +kernel
theorem b_shl (n : Nat) (hn : n < 32) (x : Int32) {i : Nat} (hi : i < 32) : bt (x <<< (nI n &&& 31)) i = (decide (n ≤ i) && bt x (i - n)) := by
  unfold bt
  rw [Int32.toBitVec_shiftLeft]
  show (x.toBitVec <<< ((nI n &&& 31).toBitVec.smod 32).toNat).getLsbD i = _
  rw [s_l n hn, BitVec.getLsbD_shiftLeft]
  rcases Nat.lt_or_ge i n with h | h
  · simp [h, Nat.not_le.mpr h]
  · simp [hi, h, Nat.not_lt.mpr h]
theorem b_ushr (n : Nat) (hn : n < 32) (x : Int32) (i : Nat) : bt ((x.toUInt32 >>> ((nI n).toUInt32 &&& Int32.toUInt32 31)).toInt32) i = bt x (n + i) := by
  show (x.toUInt32 >>> ((nI n).toUInt32 &&& Int32.toUInt32 31)).toBitVec.getLsbD i = x.toUInt32.toBitVec.getLsbD (n + i)
  rw [UInt32.toBitVec_shiftRight]
  show (x.toUInt32.toBitVec >>> (((nI n).toUInt32 &&& Int32.toUInt32 31).toBitVec % 32).toNat).getLsbD i = _
  rw [s_u n hn, BitVec.getLsbD_ushiftRight]
theorem b_sshr (n : Nat) (hn : n < 32) (x : Int32) {i : Nat} (hi : i < 32) : bt (x >>> (nI n &&& 31)) i = if n + i < 32 then bt x (n + i) else bt x 31 := by
  unfold bt
  rw [Int32.toBitVec_shiftRight]
  show (x.toBitVec.sshiftRight ((nI n &&& 31).toBitVec.smod 32).toNat).getLsbD i = _
  rw [s_l n hn, BitVec.getLsbD_sshiftRight, BitVec.msb_eq_getLsbD_last]
  simp [hi]
theorem b_shl8 (x : Int32) {i : Nat} (hi : i < 32) : bt (x <<< ((8 : Int32) &&& 31)) i = (decide (8 ≤ i) && bt x (i - 8)) := b_shl 8 (by omega) x hi
theorem b_shl16 (x : Int32) {i : Nat} (hi : i < 32) : bt (x <<< ((16 : Int32) &&& 31)) i = (decide (16 ≤ i) && bt x (i - 16)) := b_shl 16 (by omega) x hi
theorem b_shl24 (x : Int32) {i : Nat} (hi : i < 32) : bt (x <<< ((24 : Int32) &&& 31)) i = (decide (24 ≤ i) && bt x (i - 24)) := b_shl 24 (by omega) x hi
theorem b_sshr8 (x : Int32) {i : Nat} (hi : i < 32) : bt (x >>> ((8 : Int32) &&& 31)) i = if 8 + i < 32 then bt x (8 + i) else bt x 31 := b_sshr 8 (by omega) x hi
/-! ===== nI under and, xor, >>>, one bit, 65535 ===== -/
theorem nx_and (a b : Nat) : nI a &&& nI b = nI (a &&& b) := by
  apply Int32.toBitVec_inj.1
  show BitVec.ofNat 32 a &&& BitVec.ofNat 32 b = BitVec.ofNat 32 (a &&& b)
  apply BitVec.eq_of_getLsbD_eq
  intro i hi
  simp [hi]
theorem nx_xor (a b : Nat) : nI a ^^^ nI b = nI (a ^^^ b) := by
  apply Int32.toBitVec_inj.1
  show BitVec.ofNat 32 a ^^^ BitVec.ofNat 32 b = BitVec.ofNat 32 (a ^^^ b)
  apply BitVec.eq_of_getLsbD_eq
  intro i hi
  simp [hi]
/-! ===== how many places have a property ===== -/
def fb_ct (p : Nat → Bool) : Nat → Nat
  | 0 => 0
  | n + 1 => fb_ct p n + (if p n then 1 else 0)
theorem fb_ct_succ (p : Nat → Bool) (n : Nat) : fb_ct p (n + 1) = fb_ct p n + (if p n then 1 else 0) := rfl
theorem fb_ct_le (p : Nat → Bool) : ∀ n, fb_ct p n ≤ n
  | 0 => Nat.le_refl _
  | n + 1 => by
    have h := fb_ct_le p n
    rw [fb_ct_succ]
    split <;> omega
theorem fb_ct_step (p : Nat → Bool) (m : Nat) : ∀ n, fb_ct p m ≤ fb_ct p (m + n)
  | 0 => Nat.le_refl _
  | n + 1 => by
    have h := fb_ct_step p m n
    show fb_ct p m ≤ fb_ct p (m + n + 1)
    rw [fb_ct_succ]
    omega
theorem fb_ct_mono (p : Nat → Bool) {m n : Nat} (h : m ≤ n) : fb_ct p m ≤ fb_ct p n := by
  have := fb_ct_step p m (n - m)
  rwa [Nat.add_sub_cancel' h] at this
theorem fb_ct_cong {p q : Nat → Bool} : ∀ {n : Nat}, (∀ k, k < n → p k = q k) → fb_ct p n = fb_ct q n
  | 0, _ => rfl
  | n + 1, h => by
    rw [fb_ct_succ, fb_ct_succ, fb_ct_cong (fun k hk => h k (by omega)), h n (by omega)]
/-- one place changed -/
theorem fb_ct_out (p : Nat → Bool) (b : Bool) {i n : Nat} (h : n ≤ i) : fb_ct (fun k => if k = i then b else p k) n = fb_ct p n :=
  fb_ct_cong fun k hk => if_neg (by omega)
theorem fb_ct_upd (p : Nat → Bool) (b : Bool) {i : Nat} : ∀ {n : Nat}, i < n → fb_ct (fun k => if k = i then b else p k) n + (if p i then 1 else 0) = fb_ct p n + (if b then 1 else 0)
  | 0, h => absurd h (Nat.not_lt_zero i)
  | n + 1, h => by
    rw [fb_ct_succ, fb_ct_succ]
    rcases Nat.lt_or_ge i n with q | q
    · have := fb_ct_upd p b q
      have e : (if n = i then b else p n) = p n := if_neg (by omega)
      rw [e]
      omega
    · have e : i = n := by omega
      subst e
      rw [fb_ct_out p b (Nat.le_refl _)]
      simp only [if_true]
      omega
theorem fb_ct_sub {p q : Nat → Bool} : ∀ {n : Nat}, (∀ k, k < n → p k = true → q k = true) → fb_ct p n ≤ fb_ct q n
  | 0, _ => Nat.le_refl _
  | n + 1, h => by
    have h1 := fb_ct_sub (n := n) (p := p) (q := q) (fun k hk => h k (by omega))
    have h2 := h n (by omega)
    rw [fb_ct_succ, fb_ct_succ]
    cases hp : p n <;> cases hq : q n <;> simp_all <;> omega
theorem fb_ct_or {p q : Nat → Bool} : ∀ {n : Nat}, (∀ k, k < n → ¬ (p k = true ∧ q k = true)) → fb_ct (fun k => p k || q k) n = fb_ct p n + fb_ct q n
  | 0, _ => rfl
  | n + 1, h => by
    have h1 := fb_ct_or (n := n) (p := p) (q := q) (fun k hk => h k (by omega))
    have h2 := h n (by omega)
    rw [fb_ct_succ, fb_ct_succ, fb_ct_succ, h1]
    cases hp : p n <;> cases hq : q n <;> simp_all <;> omega
theorem fb_ct_not (p : Nat → Bool) : ∀ n, fb_ct p n + fb_ct (fun k => !p k) n = n
  | 0 => rfl
  | n + 1 => by
    have h := fb_ct_not p n
    rw [fb_ct_succ, fb_ct_succ]
    cases p n <;> simp <;> omega
theorem fb_ct_split (p : Nat → Bool) (m : Nat) : ∀ n, fb_ct p (m + n) = fb_ct p m + fb_ct (fun k => p (m + k)) n
  | 0 => rfl
  | n + 1 => by
    have h := fb_ct_split p m n
    show fb_ct p (m + n + 1) = _
    rw [fb_ct_succ, fb_ct_succ, h, Nat.add_assoc]
theorem fb_ct_zero {p : Nat → Bool} : ∀ {n : Nat}, fb_ct p n = 0 ↔ ∀ k, k < n → p k = false
  | 0 => ⟨fun _ k hk => absurd hk (Nat.not_lt_zero k), fun _ => rfl⟩
  | n + 1 => by
    have h := fb_ct_zero (p := p) (n := n)
    rw [fb_ct_succ]
    constructor
    · intro e k hk
      have e1 : fb_ct p n = 0 := by omega
      rcases Nat.lt_or_ge k n with q | q
      · exact h.mp e1 k q
      · have ek : k = n := by omega
        subst ek
        cases hp : p k
        · rfl
        · simp [hp] at e
    · intro a
      rw [h.mpr (fun k hk => a k (by omega)), a n (by omega)]
      rfl
theorem fb_ct_pos {p : Nat → Bool} {n : Nat} : 0 < fb_ct p n ↔ ∃ k, k < n ∧ p k = true := by
  constructor
  · intro h
    refine Classical.byContradiction fun hx => ?_
    have := fb_ct_zero.mpr (fun k hk => by
      cases hp : p k
      · rfl
      · exact absurd ⟨k, hk, hp⟩ hx : ∀ k, k < n → p k = false)
    omega
  · rintro ⟨k, hk, hp⟩
    rcases Nat.eq_zero_or_pos (fb_ct p n) with e | e
    · have := fb_ct_zero.mp e k hk
      rw [this] at hp
      cases hp
    · exact e
theorem fb_ct_all {p : Nat → Bool} {n : Nat} : fb_ct p n = n ↔ ∀ k, k < n → p k = true := by
  have h := fb_ct_not p n
  constructor
  · intro e k hk
    have z : fb_ct (fun k => !p k) n = 0 := by omega
    have := fb_ct_zero.mp z k hk
    cases hp : p k
    · simp [hp] at this
    · rfl
  · intro a
    have z : fb_ct (fun k => !p k) n = 0 := fb_ct_zero.mpr (fun k hk => by simp [a k hk])
    omega
/-- the k-th place with the property -/
theorem fb_ct_kth {p : Nat → Bool} {k : Nat} : ∀ {n : Nat}, k < fb_ct p n → ∃ i, i < n ∧ p i = true ∧ fb_ct p i = k
  | 0, h => absurd h (Nat.not_lt_zero k)
  | n + 1, h => by
    rcases Nat.lt_or_ge k (fb_ct p n) with q | q
    · obtain ⟨i, h1, h2⟩ := fb_ct_kth q
      exact ⟨i, by omega, h2⟩
    · rw [fb_ct_succ] at h
      cases hp : p n
      · simp [hp] at h; omega
      · simp [hp] at h
        exact ⟨n, by omega, hp, by omega⟩
theorem fb_ct_kth_one {p : Nat → Bool} {i j : Nat} (hi : p i = true) (hj : p j = true) (e : fb_ct p i = fb_ct p j) : i = j := by
  have key : ∀ a b : Nat, a < b → p a = true → fb_ct p a < fb_ct p b := by
    intro a b hab ha
    have h := fb_ct_mono p (show a + 1 ≤ b from hab)
    rw [fb_ct_succ, ha] at h
    simp at h
    omega
  rcases Nat.lt_trichotomy i j with q | q | q
  · have := key i j q hi; omega
  · exact q
  · have := key j i q hj; omega
/-! ===== sums over a range: one place changed, parts, bounds ===== -/
def fb_sm (f : Nat → Nat) : Nat → Nat
  | 0 => 0
  | n + 1 => fb_sm f n + f n
theorem fb_sm_succ (f : Nat → Nat) (n : Nat) : fb_sm f (n + 1) = fb_sm f n + f n := rfl
theorem fb_sm_cong {f g : Nat → Nat} : ∀ {n : Nat}, (∀ k, k < n → f k = g k) → fb_sm f n = fb_sm g n
  | 0, _ => rfl
  | n + 1, h => by rw [fb_sm_succ, fb_sm_succ, fb_sm_cong (fun k hk => h k (by omega)), h n (by omega)]
theorem fb_sm_out (f : Nat → Nat) (v : Nat) {i n : Nat} (h : n ≤ i) : fb_sm (fun k => if k = i then v else f k) n = fb_sm f n :=
  fb_sm_cong fun k hk => if_neg (by omega)
theorem fb_sm_upd (f : Nat → Nat) (v : Nat) {i : Nat} : ∀ {n : Nat}, i < n → fb_sm (fun k => if k = i then v else f k) n + f i = fb_sm f n + v
  | 0, h => absurd h (Nat.not_lt_zero i)
  | n + 1, h => by
    rw [fb_sm_succ, fb_sm_succ]
    rcases Nat.lt_or_ge i n with q | q
    · have := fb_sm_upd f v q
      have e : (if n = i then v else f n) = f n := if_neg (by omega)
      rw [e]
      omega
    · have e : i = n := by omega
      subst e
      rw [fb_sm_out f v (Nat.le_refl _)]
      simp only [if_true]
      omega
theorem fb_sm_add (f g : Nat → Nat) : ∀ n, fb_sm (fun k => f k + g k) n = fb_sm f n + fb_sm g n
  | 0 => rfl
  | n + 1 => by
    have h := fb_sm_add f g n
    rw [fb_sm_succ, fb_sm_succ, fb_sm_succ, h]
    omega
theorem fb_sm_le {f g : Nat → Nat} : ∀ {n : Nat}, (∀ k, k < n → f k ≤ g k) → fb_sm f n ≤ fb_sm g n
  | 0, _ => Nat.le_refl _
  | n + 1, h => by
    have h1 := fb_sm_le (n := n) (f := f) (g := g) (fun k hk => h k (by omega))
    have h2 := h n (by omega)
    rw [fb_sm_succ, fb_sm_succ]
    omega
theorem fb_sm_const (c : Nat) : ∀ n, fb_sm (fun _ => c) n = n * c
  | 0 => by rw [Nat.zero_mul]; rfl
  | n + 1 => by rw [fb_sm_succ, fb_sm_const c n, Nat.succ_mul]
theorem fb_sm_bound {f : Nat → Nat} {c n : Nat} (h : ∀ k, k < n → f k ≤ c) : fb_sm f n ≤ n * c := by
  rw [← fb_sm_const c n]
  exact fb_sm_le h
theorem fb_sm_mono (f : Nat → Nat) (m : Nat) : ∀ n, fb_sm f m ≤ fb_sm f (m + n)
  | 0 => Nat.le_refl _
  | n + 1 => by
    have h := fb_sm_mono f m n
    show fb_sm f m ≤ fb_sm f (m + n + 1)
    rw [fb_sm_succ]
    omega
theorem fb_sm_part (f : Nat → Nat) {i n : Nat} (h : i < n) : fb_sm f i + f i ≤ fb_sm f n := by
  have := fb_sm_mono f (i + 1) (n - (i + 1))
  rw [fb_sm_succ, show i + 1 + (n - (i + 1)) = n by omega] at this
  exact this
theorem fb_sm_split (f : Nat → Nat) (m : Nat) : ∀ n, fb_sm f (m + n) = fb_sm f m + fb_sm (fun k => f (m + k)) n
  | 0 => rfl
  | n + 1 => by
    have h := fb_sm_split f m n
    show fb_sm f (m + n + 1) = _
    rw [fb_sm_succ, fb_sm_succ, h, Nat.add_assoc]
theorem fb_sm_zero {f : Nat → Nat} {n : Nat} (h : fb_sm f n = 0) : ∀ k, k < n → f k = 0 := fun k hk => by
  have := fb_sm_part f hk
  omega
/-- a small number is its own byte, its own short -/
theorem fa_byte_small {n : Nat} (h : n < 128) : (nI n).toInt8.toInt32 = nI n := by
  have : ∀ j : Fin 128, (nI j.val).toInt8.toInt32 = nI j.val := by decide +kernel
  exact this ⟨n, h⟩
end
section
/-! rows of my own over the kit: ints that are numbers (nI), bits, loops, calls in a world -/
abbrev vwCl : List vw_C := [(RX1, TX1, 5), (RX2, TX2, 3)]
theorem gb_pow : ∀ i, i < 32 → ∀ k, k < 32 → bt (nI (2 ^ i)) k = decide (k = i) := by decide +kernel
theorem gb_one : ∀ k, k < 32 → bt (nI 1) k = decide (k = 0) := by decide +kernel
theorem gb_bool : ∀ β : Bool, ∀ k, k < 32 → bt (nI β.toNat) k = (β && decide (k = 0)) := by decide +kernel
theorem gb_set {x : Int32} {i k : Nat} (hi : i < 32) (hk : k < 32) : bt (x ||| nI (2 ^ i)) k = (bt x k || decide (k = i)) := by
  rw [b_or, gb_pow i hi k hk]
theorem gb_clr {x : Int32} {i k : Nat} (hi : i < 32) (hk : k < 32) : bt (x &&& (nI (2 ^ i) ^^^ (-1))) k = (bt x k && !decide (k = i)) := by
  rw [b_and, b_xor, gb_pow i hi k hk, b_m1 k hk, Bool.xor_true]
def gu (x : Int32) (i : Nat) : Int32 := (x.toUInt32 >>> ((nI i).toUInt32 &&& Int32.toUInt32 31)).toInt32
theorem gu_and (x : Int32) {i : Nat} (hi : i < 32) : gu x i &&& nI 1 = nI (bt x i).toNat := by
  apply b_ext
  intro k hk
  rw [b_and, gb_one k hk, gb_bool _ k hk]
  unfold gu
  rw [b_ushr i hi]
  by_cases h : k = 0
  · subst h
    simp
  · simp [h]
theorem gn_inc (n : Nat) : nI n + Int32.ofInt 1 = nI (n + 1) := nI_1 n
theorem gn_inc3 (n : Nat) : nI n + Int32.ofInt 3 = nI (n + 3) := nI_add n 3
theorem gn_dec (n : Nat) : nI (n + 1) + Int32.ofInt (-1) = nI n := pk_m1 n
theorem gn_dec0 : nI 0 + Int32.ofInt (-1) = -1 := rfl
theorem gn_shl {a k n : Nat} (hk : k < 32) (hn : a * 2 ^ k = n) (h : n < 2 ^ 32) : nI a <<< (nI k &&& 31) = nI n := by
  subst hn
  exact pk_shlN _ k (s_l k hk) h
theorem gn_shr {a k n : Nat} (ha : a < 2 ^ 31) (hk : k < 32) (hn : a / 2 ^ k = n) : nI a >>> (nI k &&& 31) = nI n := by
  subst hn
  exact pk_shrN ha _ k (s_l k hk)
theorem gn_and {a m k n : Nat} (ha : a < 2 ^ 32) (hm : m + 1 = 2 ^ k) (hk : k < 32) (hn : a % 2 ^ k = n) : nI a &&& nI m = nI n := by
  subst hn
  have h2 : 2 ^ k ≤ 2 ^ 31 := Nat.pow_le_pow_right (by decide) (by omega)
  exact pk_andN ha k (by rw [pk_tn (by omega)]; omega)
theorem gn_pos {d : Nat} (h0 : 0 < d) (hd : d < 2 ^ 31) : ¬ nI d = 0 := nI_ne0 h0 hd
theorem gn_m1 {n : Nat} (h : n < 2 ^ 31) : ¬ nI n = -1 := by
  intro e
  have h1 := nI_toInt h
  rw [e] at h1
  have h2 : (-1 : Int32).toInt = -1 := by decide
  omega
theorem gn_nlt {n : Nat} (h : n < 2 ^ 31) : ¬ nI n < 0 := nI_pos h
section GX
variable {p : Program} {l : Launch} {e : Env} {R : Room} {s : State} {m : MethodId} {args : Array Value} {below : List Frame} {meth : Method} {c : Code} {H : Heap} {locs : List Loc} {cells slots : Nat} {Q : State → Prop}
variable {cc : ByteArray} {pc : Nat} {ls : Array Slot} {rest : List Value}
theorem gx_top {x y : Int32} (h : x = y) (k : W p l e R s m args below meth c H locs cells slots Q (F0 m pc ls (.int y :: rest))) : W p l e R s m args below meth c H locs cells slots Q (F0 m pc ls (.int x :: rest)) := by rw [h]; exact k
theorem gx_iadd (hexec : p.tables.exec = Jvm.exec) (hb : c.code = cc) {a b n : Nat} (hdg : decode cc pc = .ok (.iadd, 1)) (hn : a + b = n) (k : W p l e R s m args below meth c H locs cells slots Q (F0 m (pc + 1) ls (.int (nI n) :: rest))) : W p l e R s m args below meth c H locs cells slots Q (F0 m pc ls (.int (nI b) :: .int (nI a) :: rest)) := lv_iadd hexec hb hdg (by rw [nI_add, hn]; exact k)
theorem gx_isub (hexec : p.tables.exec = Jvm.exec) (hb : c.code = cc) {a b n : Nat} (hdg : decode cc pc = .ok (.isub, 1)) (hn : n + b = a) (k : W p l e R s m args below meth c H locs cells slots Q (F0 m (pc + 1) ls (.int (nI n) :: rest))) : W p l e R s m args below meth c H locs cells slots Q (F0 m pc ls (.int (nI b) :: .int (nI a) :: rest)) := lv_isub hexec hb hdg (by rw [show nI a - nI b = nI n by rw [pk_sub (by omega)]; exact congrArg nI (by omega)]; exact k)
theorem gx_imul (hexec : p.tables.exec = Jvm.exec) (hb : c.code = cc) {a b n : Nat} (hdg : decode cc pc = .ok (.imul, 1)) (hn : a * b = n) (k : W p l e R s m args below meth c H locs cells slots Q (F0 m (pc + 1) ls (.int (nI n) :: rest))) : W p l e R s m args below meth c H locs cells slots Q (F0 m pc ls (.int (nI b) :: .int (nI a) :: rest)) := lv_imul hexec hb hdg (by rw [pk_mul, hn]; exact k)
theorem gx_ishl (hexec : p.tables.exec = Jvm.exec) (hb : c.code = cc) {a b n : Nat} (hdg : decode cc pc = .ok (.ishl, 1)) (hk : b < 32) (hn : a * 2 ^ b = n) (h : n < 2 ^ 32) (k : W p l e R s m args below meth c H locs cells slots Q (F0 m (pc + 1) ls (.int (nI n) :: rest))) : W p l e R s m args below meth c H locs cells slots Q (F0 m pc ls (.int (nI b) :: .int (nI a) :: rest)) := lv_ishl hexec hb hdg (by rw [gn_shl hk hn h]; exact k)
theorem gx_ishr (hexec : p.tables.exec = Jvm.exec) (hb : c.code = cc) {a b n : Nat} (hdg : decode cc pc = .ok (.ishr, 1)) (ha : a < 2 ^ 31) (hk : b < 32) (hn : a / 2 ^ b = n) (k : W p l e R s m args below meth c H locs cells slots Q (F0 m (pc + 1) ls (.int (nI n) :: rest))) : W p l e R s m args below meth c H locs cells slots Q (F0 m pc ls (.int (nI b) :: .int (nI a) :: rest)) := lv_ishr hexec hb hdg (by rw [gn_shr ha hk hn]; exact k)
theorem gx_iand (hexec : p.tables.exec = Jvm.exec) (hb : c.code = cc) {a b n : Nat} (hdg : decode cc pc = .ok (.iand, 1)) (kk : Nat) (ha : a < 2 ^ 32) (hm : b + 1 = 2 ^ kk) (hk : kk < 32) (hn : a % 2 ^ kk = n) (k : W p l e R s m args below meth c H locs cells slots Q (F0 m (pc + 1) ls (.int (nI n) :: rest))) : W p l e R s m args below meth c H locs cells slots Q (F0 m pc ls (.int (nI b) :: .int (nI a) :: rest)) := lv_iand hexec hb hdg (by rw [gn_and ha hm hk hn]; exact k)
theorem gx_ixor (hexec : p.tables.exec = Jvm.exec) (hb : c.code = cc) {a b n : Nat} (hdg : decode cc pc = .ok (.ixor, 1)) (hn : a ^^^ b = n) (k : W p l e R s m args below meth c H locs cells slots Q (F0 m (pc + 1) ls (.int (nI n) :: rest))) : W p l e R s m args below meth c H locs cells slots Q (F0 m pc ls (.int (nI b) :: .int (nI a) :: rest)) := lv_ixor hexec hb hdg (by rw [nx_xor, hn]; exact k)
theorem gx_idiv (hexec : p.tables.exec = Jvm.exec) (hb : c.code = cc) {a b n : Nat} (hdg : decode cc pc = .ok (.idiv, 1)) (ha : a < 2 ^ 31) (h0 : 0 < b) (h1 : b < 2 ^ 31) (hn : a / b = n) (k : W p l e R s m args below meth c H locs cells slots Q (F0 m (pc + 1) ls (.int (nI n) :: rest))) : W p l e R s m args below meth c H locs cells slots Q (F0 m pc ls (.int (nI b) :: .int (nI a) :: rest)) := lv_idiv hexec hb hdg (gn_pos h0 h1) (by rw [pk_div ha h0 h1, hn]; exact k)
theorem gx_irem (hexec : p.tables.exec = Jvm.exec) (hb : c.code = cc) {a b n : Nat} (hdg : decode cc pc = .ok (.irem, 1)) (ha : a < 2 ^ 31) (h0 : 0 < b) (h1 : b < 2 ^ 31) (hn : a % b = n) (k : W p l e R s m args below meth c H locs cells slots Q (F0 m (pc + 1) ls (.int (nI n) :: rest))) : W p l e R s m args below meth c H locs cells slots Q (F0 m pc ls (.int (nI b) :: .int (nI a) :: rest)) := lv_irem hexec hb hdg (gn_pos h0 h1) (by rw [pk_rem ha h0 h1, hn]; exact k)
theorem gx_i2b (hexec : p.tables.exec = Jvm.exec) (hb : c.code = cc) {a : Nat} (hdg : decode cc pc = .ok (.i2b, 1)) (ha : a < 128) (k : W p l e R s m args below meth c H locs cells slots Q (F0 m (pc + 1) ls (.int (nI a) :: rest))) : W p l e R s m args below meth c H locs cells slots Q (F0 m pc ls (.int (nI a) :: rest)) := lv_i2b hexec hb hdg (fa_byte_small ha) k
theorem gx_iushr (hexec : p.tables.exec = Jvm.exec) (hb : c.code = cc) {x : Int32} {i : Nat} (hdg : decode cc pc = .ok (.iushr, 1)) (k : W p l e R s m args below meth c H locs cells slots Q (F0 m (pc + 1) ls (.int (gu x i) :: rest))) : W p l e R s m args below meth c H locs cells slots Q (F0 m pc ls (.int (nI i) :: .int x :: rest)) := lv_iushr hexec hb hdg rfl k
theorem gx_bit (hexec : p.tables.exec = Jvm.exec) (hb : c.code = cc) {x : Int32} {i : Nat} (hdg : decode cc pc = .ok (.iand, 1)) (hi : i < 32) (k : W p l e R s m args below meth c H locs cells slots Q (F0 m (pc + 1) ls (.int (nI (bt x i).toNat) :: rest))) : W p l e R s m args below meth c H locs cells slots Q (F0 m pc ls (.int (nI 1) :: .int (gu x i) :: rest)) := lv_iand hexec hb hdg (by rw [gu_and x hi]; exact k)
theorem gx_icmp_ge (hexec : p.tables.exec = Jvm.exec) (hb : c.code = cc) {a b : Nat} {off : Int} {tgt : Nat} (hdg : decode cc pc = .ok (.if_icmp .ge off, 3)) (ht : (pc : Int) + off = (tgt : Int)) (h1 : a < 2 ^ 31) (h2 : b < 2 ^ 31) (kt : b ≤ a → W p l e R s m args below meth c H locs cells slots Q (F0 m tgt ls rest)) (kf : a < b → W p l e R s m args below meth c H locs cells slots Q (F0 m (pc + 3) ls rest)) : W p l e R s m args below meth c H locs cells slots Q (F0 m pc ls (.int (nI b) :: .int (nI a) :: rest)) := lv_icmp_ge hexec hb hdg ht (fun q => kt (by rw [nI_leI h2 h1] at q; omega)) (fun q => kf (by rw [nI_leI h2 h1] at q; omega))
theorem gx_icmp_gt (hexec : p.tables.exec = Jvm.exec) (hb : c.code = cc) {a b : Nat} {off : Int} {tgt : Nat} (hdg : decode cc pc = .ok (.if_icmp .gt off, 3)) (ht : (pc : Int) + off = (tgt : Int)) (h1 : a < 2 ^ 31) (h2 : b < 2 ^ 31) (kt : b < a → W p l e R s m args below meth c H locs cells slots Q (F0 m tgt ls rest)) (kf : a ≤ b → W p l e R s m args below meth c H locs cells slots Q (F0 m (pc + 3) ls rest)) : W p l e R s m args below meth c H locs cells slots Q (F0 m pc ls (.int (nI b) :: .int (nI a) :: rest)) := lv_icmp_gt hexec hb hdg ht (fun q => kt (by rw [nI_ltI h2 h1] at q; omega)) (fun q => kf (by rw [nI_ltI h2 h1] at q; omega))
theorem gx_icmp_le (hexec : p.tables.exec = Jvm.exec) (hb : c.code = cc) {a b : Nat} {off : Int} {tgt : Nat} (hdg : decode cc pc = .ok (.if_icmp .le off, 3)) (ht : (pc : Int) + off = (tgt : Int)) (h1 : a < 2 ^ 31) (h2 : b < 2 ^ 31) (kt : a ≤ b → W p l e R s m args below meth c H locs cells slots Q (F0 m tgt ls rest)) (kf : b < a → W p l e R s m args below meth c H locs cells slots Q (F0 m (pc + 3) ls rest)) : W p l e R s m args below meth c H locs cells slots Q (F0 m pc ls (.int (nI b) :: .int (nI a) :: rest)) := lv_icmp_le hexec hb hdg ht (fun q => kt (by rw [nI_leI h1 h2] at q; omega)) (fun q => kf (by rw [nI_leI h1 h2] at q; omega))
theorem gx_icmp_lt (hexec : p.tables.exec = Jvm.exec) (hb : c.code = cc) {a b : Nat} {off : Int} {tgt : Nat} (hdg : decode cc pc = .ok (.if_icmp .lt off, 3)) (ht : (pc : Int) + off = (tgt : Int)) (h1 : a < 2 ^ 31) (h2 : b < 2 ^ 31) (kt : a < b → W p l e R s m args below meth c H locs cells slots Q (F0 m tgt ls rest)) (kf : b ≤ a → W p l e R s m args below meth c H locs cells slots Q (F0 m (pc + 3) ls rest)) : W p l e R s m args below meth c H locs cells slots Q (F0 m pc ls (.int (nI b) :: .int (nI a) :: rest)) := lv_icmp_lt hexec hb hdg ht (fun q => kt (by rw [nI_ltI h1 h2] at q; omega)) (fun q => kf (by rw [nI_ltI h1 h2] at q; omega))
theorem gx_icmp_eq (hexec : p.tables.exec = Jvm.exec) (hb : c.code = cc) {a b : Nat} {off : Int} {tgt : Nat} (hdg : decode cc pc = .ok (.if_icmp .eq off, 3)) (ht : (pc : Int) + off = (tgt : Int)) (h1 : a < 2 ^ 31) (h2 : b < 2 ^ 31) (kt : a = b → W p l e R s m args below meth c H locs cells slots Q (F0 m tgt ls rest)) (kf : a ≠ b → W p l e R s m args below meth c H locs cells slots Q (F0 m (pc + 3) ls rest)) : W p l e R s m args below meth c H locs cells slots Q (F0 m pc ls (.int (nI b) :: .int (nI a) :: rest)) := lv_icmp_eq hexec hb hdg ht (fun q => kt (by rw [nI_eq h1 h2] at q; omega)) (fun q => kf (by rw [nI_eq h1 h2] at q; omega))
theorem gx_icmp_ne (hexec : p.tables.exec = Jvm.exec) (hb : c.code = cc) {a b : Nat} {off : Int} {tgt : Nat} (hdg : decode cc pc = .ok (.if_icmp .ne off, 3)) (ht : (pc : Int) + off = (tgt : Int)) (h1 : a < 2 ^ 31) (h2 : b < 2 ^ 31) (kt : a ≠ b → W p l e R s m args below meth c H locs cells slots Q (F0 m tgt ls rest)) (kf : a = b → W p l e R s m args below meth c H locs cells slots Q (F0 m (pc + 3) ls rest)) : W p l e R s m args below meth c H locs cells slots Q (F0 m pc ls (.int (nI b) :: .int (nI a) :: rest)) := lv_icmp_ne hexec hb hdg ht (fun q => kt (by rw [nI_eq h1 h2] at q; omega)) (fun q => kf (by rw [nI_eq h1 h2] at q; omega))
theorem gx_if_eqN (hexec : p.tables.exec = Jvm.exec) (hb : c.code = cc) {a : Nat} {off : Int} {tgt : Nat} (hdg : decode cc pc = .ok (.ifCond .eq off, 3)) (ht : (pc : Int) + off = (tgt : Int)) (h1 : a < 2 ^ 31) (kt : a = 0 → W p l e R s m args below meth c H locs cells slots Q (F0 m tgt ls rest)) (kf : a ≠ 0 → W p l e R s m args below meth c H locs cells slots Q (F0 m (pc + 3) ls rest)) : W p l e R s m args below meth c H locs cells slots Q (F0 m pc ls (.int (nI a) :: rest)) := lv_if_eq hexec hb hdg ht (fun q => kt (by rw [← nI_0, nI_eq h1 (by decide)] at q; exact q)) (fun q => kf (by rw [← nI_0, nI_eq h1 (by decide)] at q; exact q))
theorem gx_if_neN (hexec : p.tables.exec = Jvm.exec) (hb : c.code = cc) {a : Nat} {off : Int} {tgt : Nat} (hdg : decode cc pc = .ok (.ifCond .ne off, 3)) (ht : (pc : Int) + off = (tgt : Int)) (h1 : a < 2 ^ 31) (kt : a ≠ 0 → W p l e R s m args below meth c H locs cells slots Q (F0 m tgt ls rest)) (kf : a = 0 → W p l e R s m args below meth c H locs cells slots Q (F0 m (pc + 3) ls rest)) : W p l e R s m args below meth c H locs cells slots Q (F0 m pc ls (.int (nI a) :: rest)) := lv_if_ne hexec hb hdg ht (fun q => kt (by rw [← nI_0, nI_eq h1 (by decide)] at q; exact q)) (fun q => kf (by rw [← nI_0, nI_eq h1 (by decide)] at q; exact q))
theorem gx_if_eqB (hexec : p.tables.exec = Jvm.exec) (hb : c.code = cc) {β : Bool} {off : Int} {tgt : Nat} (hdg : decode cc pc = .ok (.ifCond .eq off, 3)) (ht : (pc : Int) + off = (tgt : Int))  (kt : β = false → W p l e R s m args below meth c H locs cells slots Q (F0 m tgt ls rest)) (kf : β = true → W p l e R s m args below meth c H locs cells slots Q (F0 m (pc + 3) ls rest)) : W p l e R s m args below meth c H locs cells slots Q (F0 m pc ls (.int (nI β.toNat) :: rest)) := lv_if_eq hexec hb hdg ht (fun q => kt (by cases β <;> first | rfl | exact absurd q (by decide))) (fun q => kf (by cases β <;> first | rfl | exact absurd q (by decide)))
theorem gx_if_neB (hexec : p.tables.exec = Jvm.exec) (hb : c.code = cc) {β : Bool} {off : Int} {tgt : Nat} (hdg : decode cc pc = .ok (.ifCond .ne off, 3)) (ht : (pc : Int) + off = (tgt : Int))  (kt : β = true → W p l e R s m args below meth c H locs cells slots Q (F0 m tgt ls rest)) (kf : β = false → W p l e R s m args below meth c H locs cells slots Q (F0 m (pc + 3) ls rest)) : W p l e R s m args below meth c H locs cells slots Q (F0 m pc ls (.int (nI β.toNat) :: rest)) := lv_if_ne hexec hb hdg ht (fun q => kt (by cases β <;> first | rfl | exact absurd q (by decide))) (fun q => kf (by cases β <;> first | rfl | exact absurd q (by decide)))
theorem gx_if_eqP (hexec : p.tables.exec = Jvm.exec) (hb : c.code = cc) {x : Int32} {P : Prop} {off : Int} {tgt : Nat} (hdg : decode cc pc = .ok (.ifCond .eq off, 3)) (ht : (pc : Int) + off = (tgt : Int)) (h : (x = 1 ∧ P) ∨ (x = 0 ∧ ¬ P)) (kt : ¬ P → W p l e R s m args below meth c H locs cells slots Q (F0 m tgt ls rest)) (kf : P → W p l e R s m args below meth c H locs cells slots Q (F0 m (pc + 3) ls rest)) : W p l e R s m args below meth c H locs cells slots Q (F0 m pc ls (.int x :: rest)) := lv_if_eq hexec hb hdg ht (fun q => kt (by rcases h with ⟨e, hp⟩ | ⟨e, hp⟩ <;> first | exact hp | (subst e; exact absurd q (by decide)))) (fun q => kf (by rcases h with ⟨e, hp⟩ | ⟨e, hp⟩ <;> first | exact hp | (subst e; exact absurd q (by decide))))
theorem gx_if_neP (hexec : p.tables.exec = Jvm.exec) (hb : c.code = cc) {x : Int32} {P : Prop} {off : Int} {tgt : Nat} (hdg : decode cc pc = .ok (.ifCond .ne off, 3)) (ht : (pc : Int) + off = (tgt : Int)) (h : (x = 1 ∧ P) ∨ (x = 0 ∧ ¬ P)) (kt : P → W p l e R s m args below meth c H locs cells slots Q (F0 m tgt ls rest)) (kf : ¬ P → W p l e R s m args below meth c H locs cells slots Q (F0 m (pc + 3) ls rest)) : W p l e R s m args below meth c H locs cells slots Q (F0 m pc ls (.int x :: rest)) := lv_if_ne hexec hb hdg ht (fun q => kt (by rcases h with ⟨e, hp⟩ | ⟨e, hp⟩ <;> first | exact hp | (subst e; exact absurd q (by decide)))) (fun q => kf (by rcases h with ⟨e, hp⟩ | ⟨e, hp⟩ <;> first | exact hp | (subst e; exact absurd q (by decide))))
/-- a loop that only reads: the state x and the locals; a measure falls -/
theorem gx_loopP {σ : Type} {st : List Value} (I : σ → Array Slot → Prop) (μ : σ → Nat) (x0 : σ) (h0 : I x0 ls) (step : ∀ (x : σ) (ls : Array Slot), I x ls → (∀ (y : σ) (ls1 : Array Slot), I y ls1 → μ y < μ x → W p l e R s m args below meth c H locs cells slots Q (F0 m pc ls1 st)) → W p l e R s m args below meth c H locs cells slots Q (F0 m pc ls st)) : W p l e R s m args below meth c H locs cells slots Q (F0 m pc ls st) := by
  have key : ∀ (n : Nat) (x : σ) (ls : Array Slot), μ x < n → I x ls → W p l e R s m args below meth c H locs cells slots Q (F0 m pc ls st) := by
    intro n
    induction n with
    | zero => intro x ls h; omega
    | succ n ih => intro x ls hn hI; exact step x ls hI (fun y ls1 h1 h2 => ih y ls1 (by omega) h1)
  exact key (μ x0 + 1) x0 ls (by omega) h0
/-- a loop that writes -/
theorem gx_loopM {σ : Type} {st : List Value} (I : σ → Heap → List Loc → Array Slot → Prop) (μ : σ → Nat) (x0 : σ) (h0 : I x0 H locs ls) (step : ∀ (x : σ) (H : Heap) (locs : List Loc) (ls : Array Slot), I x H locs ls → (∀ (y : σ) (H1 : Heap) (locs1 : List Loc) (ls1 : Array Slot), I y H1 locs1 ls1 → μ y < μ x → W p l e R s m args below meth c H1 locs1 cells slots Q (F0 m pc ls1 st)) → W p l e R s m args below meth c H locs cells slots Q (F0 m pc ls st)) : W p l e R s m args below meth c H locs cells slots Q (F0 m pc ls st) := by
  have key : ∀ (n : Nat) (x : σ) (H : Heap) (locs : List Loc) (ls : Array Slot), μ x < n → I x H locs ls → W p l e R s m args below meth c H locs cells slots Q (F0 m pc ls st) := by
    intro n
    induction n with
    | zero => intro x H locs ls h; omega
    | succ n ih => intro x H locs ls hn hI; exact step x H locs ls hI (fun y H1 locs1 ls1 h1 h2 => ih y H1 locs1 ls1 (by omega) h1)
  exact key (μ x0 + 1) x0 H locs ls (by omega) h0
end GX
/-! contracts in a world: a method that only reads (gw_Ps, vp_Si), one that writes (gw_Pc, gw_Q, gw_V) -/
abbrev gw_Ps (D : va_G) (ws : va_W) (tys : List (ClassId × FieldType)) (av : List Value) : Array Value → State → Prop := va_Pc av (fun U => va_P D vwCl ws U.heap ∧ va_K D vwCl tys U)
abbrev gw_Pc (D : va_G) (ws : va_W) (tys : List (ClassId × FieldType)) (sz : Nat) (av : List Value) : Array Value → State → Prop := va_Pc av (fun U => U.heap.size = sz ∧ va_P D vwCl ws U.heap ∧ va_K D vwCl tys U ∧ va_D (fun _ => True) ws)
abbrev gw_B {σ : Type} (D : va_G) (tys : List (ClassId × FieldType)) (A : Nat → Prop) (wf : σ → va_W) (u : σ) (t : State) : Prop := va_P D vwCl (wf u) t.heap ∧ va_K D vwCl tys t ∧ va_D A (wf u)
abbrev gw_Q {σ : Type} (D : va_G) (tys : List (ClassId × FieldType)) (wf : σ → va_W) (post : Int32 → σ → Prop) (A : Nat → Prop) : Array Value → State → Outcome → State → Prop := va_Qi post (gw_B D tys A wf) A
abbrev gw_V {σ : Type} (D : va_G) (tys : List (ClassId × FieldType)) (wf : σ → va_W) (post : σ → Prop) (A : Nat → Prop) : Array Value → State → Outcome → State → Prop := va_Qv post (gw_B D tys A wf) A
theorem gw_ofS {l : Launch} {y : MethodName} {cc : ByteArray} {maxL : Nat} {ret : Option FieldType} {av : List Value} {D : va_G} {ws : va_W} {tys : List (ClassId × FieldType)} {post : Int32 → Prop} {rm : Room} (hy : plainName y.cls = true) (hfit : (lg_sl av).length ≤ maxL)
    (body : ∀ (p : Program) (e : Env) (s : State) (m : MethodId) (below : List Frame) (meth : Method) (c : Code) (ls : Array Slot), p.tables.exec = Jvm.exec → c.code = cc → meth.sig.returnType = ret → c.maxLocals = maxL → s.vm.findClass y.cls = some m.cls → (∀ w ∈ lw_all, w.before av.toArray s = true) → meth.locks = false → va_P D vwCl ws s.heap → va_K D vwCl tys s → lv_has ls maxL (lv_args 0 av) →
      W p l e rm s m av.toArray below meth c s.heap [] 0 0 (MQ below (vp_Si post) av.toArray s 0 0 (fun _ => False)) (F0 m 0 ls [])) : Met l y (ws_ y cc maxL ret) rm (gw_Ps D ws tys av) (vp_Si post) 0 0 (fun _ => False) := by
  refine Met.ofW (cc := cc) (maxL := maxL) (ret := ret) hy rfl ?_
  intro p e s m args below meth c s₁ B hml hv
  obtain ⟨rfl, hP, hK⟩ := hv
  have hts := atoms_spec (ws := ws_ y cc maxL ret) B.pre
  have hts : ∀ w ∈ lw_all, w.before _ s = true := fun w h => hts w (List.mem_cons_of_mem _ h)
  have hl := lv_entry av (n := maxL) hfit
  rw [lg_entry_eq]
  exact body p e s m below meth c _ B.exec B.bytes B.returns hml (findClass_of_methodNamed B.named) hts B.notSynchronized hP hK hl
theorem gw_ofQ {l : Launch} {y : MethodName} {cc : ByteArray} {maxL : Nat} {ret : Option FieldType} {av : List Value} {D : va_G} {ws : va_W} {tys : List (ClassId × FieldType)} (Qc : (Nat → Prop) → Array Value → State → Outcome → State → Prop) {rm : Room} {sz mc ms : Nat} (hy : plainName y.cls = true) (hfit : (lg_sl av).length ≤ maxL)
    (body : ∀ (p : Program) (e : Env) (s : State) (m : MethodId) (below : List Frame) (meth : Method) (c : Code) (ls : Array Slot) (A : Nat → Prop), p.tables.exec = Jvm.exec → c.code = cc → meth.sig.returnType = ret → c.maxLocals = maxL → s.vm.findClass y.cls = some m.cls → (∀ w ∈ lw_all, w.before av.toArray s = true) → meth.locks = false → meth.name = y.name → va_P D vwCl ws s.heap → va_K D vwCl tys s → va_D A ws → va_S A s.heap s.heap [] → (∀ q : Nat, s.heap.size ≤ q → A q) → lv_has ls maxL (lv_args 0 av) →
      W p l e rm s m av.toArray below meth c s.heap [] 0 0 (MQ below (Qc A) av.toArray s mc ms A) (F0 m 0 ls [])) : Met l y (ws_ y cc maxL ret) rm (gw_Pc D ws tys sz av) (Qc (va_A ws sz)) mc ms (va_A ws sz) := by
  refine Met.ofW (cc := cc) (maxL := maxL) (ret := ret) hy rfl ?_
  intro p e s m args below meth c s₁ B hml hv
  obtain ⟨rfl, hsz, hP, hK, hD0⟩ := hv
  have hts := atoms_spec (ws := ws_ y cc maxL ret) B.pre
  have hts : ∀ w ∈ lw_all, w.before _ s = true := fun w h => hts w (List.mem_cons_of_mem _ h)
  have hl := lv_entry av (n := maxL) hfit
  subst hsz
  rw [lg_entry_eq]
  exact body p e s m below meth c _ (va_A ws s.heap.size) B.exec B.bytes B.returns hml (findClass_of_methodNamed B.named) hts B.notSynchronized (name_of_methodNamed B.named B.method).1 hP hK (hD0.self (sz := s.heap.size)) va_S.rf (fun q h => Or.inr h) hl
section GC
variable {p : Program} {l : Launch} {e : Env} {R : Room} {s : State} {m : MethodId} {args : Array Value} {below : List Frame} {meth : Method} {c : Code} {H : Heap} {locs : List Loc} {cells slots : Nat} {Q : State → Prop}
variable {cc bytes : ByteArray} {pc nL maxL index n h ci q0 N : Nat} {ls : Array Slot} {rest As st0 : List Value} {y : MethodName} {ret : Option FieldType} {rm : Room} {own C : String} {T : u_T} {fs : List Value} {D : va_G} {tys : List (ClassId × FieldType)} {ws wc wr : va_W} {A : Nat → Prop} {H0 : Heap}
/-- a call of a method that only reads -/
theorem gw_cS {post : Int32 → Prop} (S : CallFix p m c cc nL s args lw_all own) (hM : Met l y (ws_ y bytes maxL ret) rm (gw_Ps D wc tys (.ref h :: As)) (vp_Si post) 0 0 (fun _ => False)) (cw : CallW R s args own C index y bytes maxL ret (ws_ y bytes maxL ret) rm 0 0 n) (hK : va_K D vwCl tys s) (hP : va_P D vwCl wc H) (hc : vwCl[ci]? = some (C, T, N)) (he : wc[q0]? = some (h, .inr (ci, fs))) (hn : As.length = n) (hsize : ls.size = nL) (hstack : st0 = As.reverse ++ .ref h :: rest) (hW : (rest.map fun v => v.category).sum ≤ 8) (hdg : decode cc pc = .ok (.invokevirtual index, 3)) (hf : cells ≤ R.cells ∧ slots ≤ R.slots)
    (kk : ∀ r : Int32, post r → W p l e R s m args below meth c H locs cells slots Q (F0 m (pc + 3) ls (.int r :: rest))) : W p l e R s m args below meth c H locs cells slots Q (F0 m pc ls st0) := by
  refine vp_callSi (va_runV (As := As) (rest := rest) S hM cw ⟨fun a U g mk q => ?_, va_recv hK hP hc he, fun U hU hW => ⟨rfl, by rw [hU]; exact hP, va_K.moved hW.alike hK⟩⟩ rfl hn hsize hstack (lv_room hW) hdg hf).run kk
  obtain ⟨q0, qP, qK⟩ := q
  exact ⟨q0, qP, va_K.moved (u := U) (U := U.calling g mk a) (Vm.Alike.refl U.vm) qK⟩
/-- a call of a method that writes its world and answers an int -/
theorem gw_cI {σ : Type} {wf : σ → va_W} {post : Int32 → σ → Prop} (S : CallFix p m c cc nL s args lw_all own) (hM : Met l y (ws_ y bytes maxL ret) rm (gw_Pc D wc tys H.size (.ref h :: As)) (gw_Q D tys wf post (va_A wc H.size)) 0 0 (va_A wc H.size)) (cw : CallW R s args own C index y bytes maxL ret (ws_ y bytes maxL ret) rm 0 0 n) (hK : va_K D vwCl tys s) (hP : va_P D vwCl ws H) (hD : va_D A ws) (hS : va_S A H0 H locs) (hA : ∀ q, H0.size ≤ q → A q) (isC isR : List Nat) (hC0 : isC.filterMap (fun i => ws[i]?) = wc) (hCn : va_nd isC = true) (hC : isC.map (fun i => ws[i]?) = wc.map some) (hR : isR.map (fun i => ws[i]?) = wr.map some) (hRn : va_nd isR = true) (hdis : ∀ i ∈ isR, i ∉ isC) (hc : vwCl[ci]? = some (C, T, N)) (he : wc[q0]? = some (h, .inr (ci, fs))) (hn : As.length = n) (hsize : ls.size = nL) (hstack : st0 = As.reverse ++ .ref h :: rest) (hW : (rest.map fun v => v.category).sum ≤ 8) (hdg : decode cc pc = .ok (.invokevirtual index, 3)) (hf : cells ≤ R.cells ∧ slots ≤ R.slots)
    (kk : ∀ (r : Int32) (u : σ) (H1 : Heap) (locs1 : List Loc), post r u → va_P D vwCl (wr ++ wf u) H1 → va_D A (wr ++ wf u) → va_S A H0 H1 locs1 → W p l e R s m args below meth c H1 locs1 cells slots Q (F0 m (pc + 3) ls (.int r :: rest))) : W p l e R s m args below meth c H locs cells slots Q (F0 m pc ls st0) := by
  have hPc := hP.sub (ws' := wc) isC hC0
  have hDc := hD.sub (ws' := wc) isC hCn hC
  have hFc := va_free (wc := wc) hD hS hA isC hC
  refine va_calli (va_runV (As := As) (rest := rest) S hM cw ⟨fun a U g mk q => ?_, va_recv hK hPc hc he, fun U hU hW => ⟨rfl, by rw [hU], by rw [hU]; exact hPc, va_K.moved hW.alike hK, hDc.weaken (fun _ _ _ _ => trivial)⟩⟩ rfl hn hsize hstack (lv_room hW) hdg hf) hS (fun q _ h => hFc q h) hFc (fun r u t H1 locs1 ht hvm hw hB hz1 hk1 hS1 => ?_)
  · obtain ⟨q0, q1, qP, qK, qD⟩ := q
    exact ⟨q0, q1, qP, va_K.moved (u := U) (U := U.calling g mk a) (Vm.Alike.refl U.vm) qK, qD⟩
  · obtain ⟨hP1, hK1, hD1⟩ := hB
    rw [ht] at hP1
    obtain ⟨hP, hD⟩ := va_join (wr := wr) (w1 := wf u) hP hD isC isR hC hR hRn hdis hk1 hFc hP1 hD1
    exact kk r u H1 locs1 hw hP hD hS1
/-- a call of a method that writes its world and answers nothing -/
theorem gw_cV {σ : Type} {wf : σ → va_W} {post : σ → Prop} (S : CallFix p m c cc nL s args lw_all own) (hM : Met l y (ws_ y bytes maxL ret) rm (gw_Pc D wc tys H.size (.ref h :: As)) (gw_V D tys wf post (va_A wc H.size)) 0 0 (va_A wc H.size)) (cw : CallW R s args own C index y bytes maxL ret (ws_ y bytes maxL ret) rm 0 0 n) (hK : va_K D vwCl tys s) (hP : va_P D vwCl ws H) (hD : va_D A ws) (hS : va_S A H0 H locs) (hA : ∀ q, H0.size ≤ q → A q) (isC isR : List Nat) (hC0 : isC.filterMap (fun i => ws[i]?) = wc) (hCn : va_nd isC = true) (hC : isC.map (fun i => ws[i]?) = wc.map some) (hR : isR.map (fun i => ws[i]?) = wr.map some) (hRn : va_nd isR = true) (hdis : ∀ i ∈ isR, i ∉ isC) (hc : vwCl[ci]? = some (C, T, N)) (he : wc[q0]? = some (h, .inr (ci, fs))) (hn : As.length = n) (hsize : ls.size = nL) (hstack : st0 = As.reverse ++ .ref h :: rest) (hW : (rest.map fun v => v.category).sum ≤ 8) (hdg : decode cc pc = .ok (.invokevirtual index, 3)) (hf : cells ≤ R.cells ∧ slots ≤ R.slots)
    (kk : ∀ (u : σ) (H1 : Heap) (locs1 : List Loc), post u → va_P D vwCl (wr ++ wf u) H1 → va_D A (wr ++ wf u) → va_S A H0 H1 locs1 → W p l e R s m args below meth c H1 locs1 cells slots Q (F0 m (pc + 3) ls rest)) : W p l e R s m args below meth c H locs cells slots Q (F0 m pc ls st0) := by
  have hPc := hP.sub (ws' := wc) isC hC0
  have hDc := hD.sub (ws' := wc) isC hCn hC
  have hFc := va_free (wc := wc) hD hS hA isC hC
  refine va_callv (va_runV (As := As) (rest := rest) S hM cw ⟨fun a U g mk q => ?_, va_recv hK hPc hc he, fun U hU hW => ⟨rfl, by rw [hU], by rw [hU]; exact hPc, va_K.moved hW.alike hK, hDc.weaken (fun _ _ _ _ => trivial)⟩⟩ rfl hn hsize hstack (lv_room hW) hdg hf) hS (fun q _ h => hFc q h) hFc (fun u t H1 locs1 ht hvm hw hB hz1 hk1 hS1 => ?_)
  · obtain ⟨q0, q1, qP, qK, qD⟩ := q
    exact ⟨q0, q1, qP, va_K.moved (u := U) (U := U.calling g mk a) (Vm.Alike.refl U.vm) qK, qD⟩
  · obtain ⟨hP1, hK1, hD1⟩ := hB
    rw [ht] at hP1
    obtain ⟨hP, hD⟩ := va_join (wr := wr) (w1 := wf u) hP hD isC isR hC hR hRn hdis hk1 hFc hP1 hD1
    exact kk u H1 locs1 hw hP hD hS1
end GC
section GA
variable {p : Program} {l : Launch} {e : Env} {R : Room} {s : State} {m : MethodId} {args : Array Value} {below : List Frame} {meth : Method} {c : Code} {H : Heap} {locs : List Loc} {cells slots : Nat} {Q : State → Prop}
variable {cc : ByteArray} {pc : Nat} {ls : Array Slot} {rest : List Value} {D : va_G} {cl : List vw_C} {A : Nat → Prop} {a : Nat} {tys : List (ClassId × FieldType)} {ws : va_W} {H0 : Heap}
theorem gx_iald (hexec : p.tables.exec = Jvm.exec) (hb : c.code = cc) (hK : va_K D cl tys s) (hP : va_P D cl ws H) (q0 t0 : Nat) {cA : ClassId} {n : Nat} {f : Nat → Int32} (ha : ws[q0]? = some (a, .inl (cA, n, .inl f))) (ht : tys[t0]? = some (cA, .int)) {i : Nat} (hi : i < n) (hn : n < 2 ^ 31) (hdg : decode cc pc = .ok (.iaload, 1)) (k : W p l e R s m args below meth c H locs cells slots Q (F0 m (pc + 1) ls (.int (f i) :: rest))) : W p l e R s m args below meth c H locs cells slots Q (F0 m pc ls (.int (nI i) :: .ref a :: rest)) := by
  refine va_iald hexec hb hK hP q0 t0 ha ht (vp_in_nI hi hn) hdg ?_
  rw [nI_clamp (by omega)]
  exact k
theorem gx_bald (hexec : p.tables.exec = Jvm.exec) (hb : c.code = cc) (hK : va_K D cl tys s) (hP : va_P D cl ws H) (q0 t0 : Nat) {cA : ClassId} {n : Nat} {f : Nat → Int32} (ha : ws[q0]? = some (a, .inl (cA, n, .inl f))) (ht : tys[t0]? = some (cA, .byte)) {i : Nat} (hi : i < n) (hn : n < 2 ^ 31) (hdg : decode cc pc = .ok (.baload, 1)) (k : W p l e R s m args below meth c H locs cells slots Q (F0 m (pc + 1) ls (.int (f i) :: rest))) : W p l e R s m args below meth c H locs cells slots Q (F0 m pc ls (.int (nI i) :: .ref a :: rest)) := by
  refine va_bald hexec hb hK hP q0 t0 ha ht (vp_in_nI hi hn) hdg ?_
  rw [nI_clamp (by omega)]
  exact k
theorem gx_iast (hexec : p.tables.exec = Jvm.exec) (hb : c.code = cc) (hK : va_K D cl tys s) (hP : va_P D cl ws H) (hD : va_D A ws) (hS : va_S A H0 H locs) (q0 t0 : Nat) {cA : ClassId} {n : Nat} {f : Nat → Int32} (ha : ws[q0]? = some (a, .inl (cA, n, .inl f))) (ht : tys[t0]? = some (cA, .int)) {i : Nat} {x : Int32} (hi : i < n) (hn : n < 2 ^ 31) (hdg : decode cc pc = .ok (.iastore, 1)) (kk : ∀ (H1 : Heap) (locs1 : List Loc), va_P D cl (ws.set q0 (a, .inl (cA, n, .inl (upd f i x)))) H1 → va_D A (ws.set q0 (a, .inl (cA, n, .inl (upd f i x)))) → va_S A H0 H1 locs1 → W p l e R s m args below meth c H1 locs1 cells slots Q (F0 m (pc + 1) ls rest)) : W p l e R s m args below meth c H locs cells slots Q (F0 m pc ls (.int x :: .int (nI i) :: .ref a :: rest)) := by
  refine va_iast hexec hb hK hP hD hS q0 t0 ha ht (vp_in_nI hi hn) hdg ?_
  rw [nI_clamp (by omega)]
  exact kk
theorem gx_bast (hexec : p.tables.exec = Jvm.exec) (hb : c.code = cc) (hK : va_K D cl tys s) (hP : va_P D cl ws H) (hD : va_D A ws) (hS : va_S A H0 H locs) (q0 t0 : Nat) {cA : ClassId} {n : Nat} {f : Nat → Int32} (ha : ws[q0]? = some (a, .inl (cA, n, .inl f))) (ht : tys[t0]? = some (cA, .byte)) {i : Nat} {x : Int32} (hi : i < n) (hn : n < 2 ^ 31) (hx : x.toInt8.toInt32 = x) (hdg : decode cc pc = .ok (.bastore, 1)) (kk : ∀ (H1 : Heap) (locs1 : List Loc), va_P D cl (ws.set q0 (a, .inl (cA, n, .inl (upd f i x)))) H1 → va_D A (ws.set q0 (a, .inl (cA, n, .inl (upd f i x)))) → va_S A H0 H1 locs1 → W p l e R s m args below meth c H1 locs1 cells slots Q (F0 m (pc + 1) ls rest)) : W p l e R s m args below meth c H locs cells slots Q (F0 m pc ls (.int x :: .int (nI i) :: .ref a :: rest)) := by
  refine va_bast hexec hb hK hP hD hS q0 t0 ha ht (vp_in_nI hi hn) hdg ?_
  rw [nI_clamp (by omega), vp_nar_byte, hx]
  exact kk
end GA
end
section
/-! the two worlds, and the words for what the methods answer -/
abbrev gX (h hf ho : Nat) (cI cB : ClassId) (G : Nat) (ec fd : Int32) (fm oa : Nat → Int32) : va_W := [(h, .inr (0, [.int (nI G), .ref hf, .ref ho, .int ec, .int fd])), (hf, .inl (cI, 24, .inl fm)), (ho, .inl (cB, 128, .inl oa))]
abbrev tX (cI cB : ClassId) : List (ClassId × FieldType) := [(cI, .int), (cB, .byte)]
abbrev gM (k kw ko : Nat) (cW cO : ClassId) (G : Nat) (ow od : Nat → Int32) : va_W := [(k, .inr (1, [.int (nI G), .ref kw, .ref ko])), (kw, .inl (cW, 128, .inl ow)), (ko, .inl (cO, 128, .inl od))]
abbrev tM (cW cO : ClassId) : List (ClassId × FieldType) := [(cW, .int), (cO, .int)]
theorem gp_lt {k : Nat} (h : k < 32) : 2 ^ k < 2 ^ 32 := Nat.pow_lt_pow_right (by decide) h
theorem gp_lt31 {k : Nat} (h : k < 31) : 2 ^ k < 2 ^ 31 := Nat.pow_lt_pow_right (by decide) h
theorem gp_bit (β : Bool) {t : Nat} (h : t < 32) : β.toNat * 2 ^ t < 2 ^ 32 := by
  have h1 := gp_lt h
  cases β
  · simp
  · simpa using h1
theorem gp_32 {o : Nat} (h : o < 6) : 2 ^ o ≤ 32 := by
  have h1 : 2 ^ o ≤ 2 ^ 5 := Nat.pow_le_pow_right (by decide) (by omega)
  omega
theorem gp_div {b j n : Nat} (h : b < n) : b / 2 ^ j < n := Nat.lt_of_le_of_lt (Nat.div_le_self _ _) h
/-- x is a number below N -/
def okN (N : Nat) (x : Int32) : Prop := ∃ n, n < N ∧ x = nI n
theorem ok_neg {N : Nat} {x : Int32} (hN : N ≤ 2 ^ 31) (c : x < 0) : ¬ okN N x := by
  rintro ⟨n, hn, rfl⟩
  exact absurd c (gn_nlt (by omega))
theorem ok_ge {N : Nat} {x : Int32} (hN : N < 2 ^ 31) (c : nI N ≤ x) : ¬ okN N x := by
  rintro ⟨n, hn, rfl⟩
  rw [nI_leI hN (by omega)] at c
  omega
theorem ok_in {N : Nat} {x : Int32} (hN : N < 2 ^ 31) (c1 : ¬ x < 0) (c2 : ¬ nI N ≤ x) : okN N x := by
  obtain ⟨j, hj, rfl⟩ := nI_of c1
  rw [nI_leI hN hj] at c2
  exact ⟨j, by omega, rfl⟩
theorem ok_gt5 {x : Int32} (c : nI 5 < x) : ¬ okN 6 x := by
  rintro ⟨n, hn, rfl⟩
  rw [nI_ltI (by decide) (by omega)] at c
  omega
theorem ok_le5 {x : Int32} (c1 : ¬ x < 0) (c2 : ¬ nI 5 < x) : okN 6 x := by
  obtain ⟨j, hj, rfl⟩ := nI_of c1
  rw [nI_ltI (by decide) hj] at c2
  exact ⟨j, by omega, rfl⟩
theorem ok_num {N n : Nat} (h : n < N) : okN N (nI n) := ⟨n, h, rfl⟩
/-- x is the first block of an extent, by the bytes of the orders -/
def okE (G : Nat) (oa : Nat → Int32) (x : Int32) : Prop := ∃ n, n < 32 * G ∧ x = nI n ∧ ¬ oa n < 0
theorem okE_no {G n : Nat} {oa : Nat → Int32} (hG : G ≤ 4) (hn : n < 32 * G) (c : oa n < 0) : ¬ okE G oa (nI n) := by
  rintro ⟨q, hq, e, hc⟩
  rw [nI_eq (by omega) (by omega)] at e
  subst e
  exact hc c
theorem okE_ok {G : Nat} {oa : Nat → Int32} {x : Int32} (c : ¬ okN (32 * G) x) : ¬ okE G oa x := by
  rintro ⟨q, hq, e, hc⟩
  exact c ⟨q, hq, e⟩
/-- a bit of the map of free runs: group, order, place -/
def Bt (fm : Nat → Int32) (g j i : Nat) : Bool := bt (fm (6 * g + j)) i
def FOA (fm : Nat → Int32) (g b j : Nat) : Prop := Bt fm g j (b / 2 ^ j) = true ∧ ∀ i, i < j → Bt fm g i (b / 2 ^ i) = false
theorem FOA_one {fm : Nat → Int32} {g b i j : Nat} (hi : FOA fm g b i) (hj : FOA fm g b j) : i = j := by
  rcases Nat.lt_trichotomy i j with q | q | q
  · have h1 := hj.2 i q
    rw [hi.1] at h1
    cases h1
  · exact q
  · have h1 := hi.2 j q
    rw [hj.1] at h1
    cases h1
/-- the run of order o around the block b lies in a run that the map has -/
def FR (fm : Nat → Int32) (g o b : Nat) : Prop := ∃ j, j < 6 ∧ o ≤ j ∧ FOA fm g b j
/-- what freeIn adds up -/
def fr1 (x : Int32) (t n : Nat) : Nat := fb_sm (fun i => (bt x i).toNat * 2 ^ t) n
def fr2 (fm : Nat → Int32) (g o n : Nat) : Nat := fb_sm (fun t => fr1 (fm (6 * g + (o + t))) t 32) n
def fr3 (fm : Nat → Int32) (o n : Nat) : Nat := fb_sm (fun g => fr2 fm g o (6 - o)) n
def gd (t : Nat) : Int32 := nI t + (-1)
theorem gd_0 : gd 0 = -1 := rfl
theorem gd_s (t : Nat) : gd (t + 1) = nI t := pk_m1 t
theorem gd_dec (t : Nat) : nI t + Int32.ofInt (-1) = gd t := rfl
end
section
set_option maxHeartbeats 4000000 in
set_option maxRecDepth 100000 in
theorem mX1_isOrder (l : Launch) (D : va_G) (h hf ho : Nat) (cI cB : ClassId) (G : Nat) (ec fd : Int32) (fm oa : Nat → Int32) (x : Int32) : Met l yX1_isOrder (ws_ yX1_isOrder cX1_isOrder 2 (some .boolean)) ({ frames := 0, cells := 0, slots := 0, locals := 0 } : Room) (gw_Ps D (gX h hf ho cI cB G ec fd fm oa) (tX cI cB) [.ref h, .int x]) (vp_Si (fun r => (r = 1 ∧ okN 6 x) ∨ (r = 0 ∧ ¬ okN 6 x))) 0 0 (fun _ => False) := by
  refine gw_ofS (by decide) (Nat.le_of_ble_eq_true rfl) ?_
  intro p e s m below meth c ls hx hb hr hml hown hts hlocks hP hK hl
  have hl : lv_has ls 2 [(0, .ref h), (1, .int x)] := hl
  have hown : s.vm.findClass RX1 = some m.cls := hown
  refine lv_iload_n hx hb dX1_isOrder_0 rfl (lv_at hl 1 rfl) ?_
  refine lv_if_lt (tgt := 13) hx hb dX1_isOrder_1 (by decide)  (fun c1 => ?_) (fun c1 => ?_)
  · refine lv_iconst (v := (nI 0)) hx hb dX1_isOrder_13 (by decide) ?_
    exact W.zret (v := (nI 0)) hx hb hr rfl (fun t9 ht9 hW9 => ⟨_, rfl, Or.inr ⟨rfl, ok_neg (by decide) c1⟩, ht9⟩) (fun q h => absurd h List.not_mem_nil) dX1_isOrder_14
  · refine lv_iload_n hx hb dX1_isOrder_4 rfl (lv_at hl 1 rfl) ?_
    refine lv_iconst (v := (nI 5)) hx hb dX1_isOrder_5 (by decide) ?_
    refine lv_icmp_gt (tgt := 13) hx hb dX1_isOrder_6 (by decide)  (fun c2 => ?_) (fun c2 => ?_)
    · refine lv_iconst (v := (nI 0)) hx hb dX1_isOrder_13 (by decide) ?_
      exact W.zret (v := (nI 0)) hx hb hr rfl (fun t9 ht9 hW9 => ⟨_, rfl, Or.inr ⟨rfl, ok_gt5 c2⟩, ht9⟩) (fun q h => absurd h List.not_mem_nil) dX1_isOrder_14
    · refine lv_iconst (v := (nI 1)) hx hb dX1_isOrder_9 (by decide) ?_
      refine lv_goto (tgt := 14) hx hb dX1_isOrder_10 (by decide) ?_
      exact W.zret (v := (nI 1)) hx hb hr rfl (fun t9 ht9 hW9 => ⟨_, rfl, Or.inl ⟨rfl, ok_le5 c1 c2⟩, ht9⟩) (fun q h => absurd h List.not_mem_nil) dX1_isOrder_14
set_option maxHeartbeats 4000000 in
set_option maxRecDepth 100000 in
theorem mX1_isBlock (l : Launch) (D : va_G) (h hf ho : Nat) (cI cB : ClassId) (G : Nat) (ec fd : Int32) (fm oa : Nat → Int32) (hG : G ≤ 4) (x : Int32) : Met l yX1_isBlock (ws_ yX1_isBlock cX1_isBlock 2 (some .boolean)) ({ frames := 0, cells := 0, slots := 0, locals := 0 } : Room) (gw_Ps D (gX h hf ho cI cB G ec fd fm oa) (tX cI cB) [.ref h, .int x]) (vp_Si (fun r => (r = 1 ∧ okN (32 * G) x) ∨ (r = 0 ∧ ¬ okN (32 * G) x))) 0 0 (fun _ => False) := by
  refine gw_ofS (by decide) (Nat.le_of_ble_eq_true rfl) ?_
  intro p e s m below meth c ls hx hb hr hml hown hts hlocks hP hK hl
  have hl : lv_has ls 2 [(0, .ref h), (1, .int x)] := hl
  have hown : s.vm.findClass RX1 = some m.cls := hown
  refine lv_iload_n hx hb dX1_isBlock_0 rfl (lv_at hl 1 rfl) ?_
  refine lv_if_lt (tgt := 19) hx hb dX1_isBlock_1 (by decide)  (fun c1 => ?_) (fun c1 => ?_)
  · refine lv_iconst (v := (nI 0)) hx hb dX1_isBlock_19 (by decide) ?_
    exact W.zret (v := (nI 0)) hx hb hr rfl (fun t9 ht9 hW9 => ⟨_, rfl, Or.inr ⟨rfl, ok_neg (by omega) c1⟩, ht9⟩) (fun q h => absurd h List.not_mem_nil) dX1_isBlock_20
  · refine lv_iload_n hx hb dX1_isBlock_4 rfl (lv_at hl 1 rfl) ?_
    refine lv_bipush (v := (nI 32)) hx hb dX1_isBlock_5 (by decide) ?_
    refine lv_aload_n hx hb dX1_isBlock_7 rfl (lv_at hl 0 rfl) ?_
    refine va_get (D := D) (ci := 0) (v := .int (nI G)) (C := RX1) (T := TX1) (N := 5) hx hb hts in_X1 hown hK hP 0 rfl rfl 0 (by decide) (hts _ q30) (fun _ h9 => h9) rfl dX1_isBlock_8 ?_
    refine gx_imul (n := 32 * G) hx hb dX1_isBlock_11 rfl ?_
    refine lv_icmp_ge (tgt := 19) hx hb dX1_isBlock_12 (by decide)  (fun c2 => ?_) (fun c2 => ?_)
    · refine lv_iconst (v := (nI 0)) hx hb dX1_isBlock_19 (by decide) ?_
      exact W.zret (v := (nI 0)) hx hb hr rfl (fun t9 ht9 hW9 => ⟨_, rfl, Or.inr ⟨rfl, ok_ge (by omega) c2⟩, ht9⟩) (fun q h => absurd h List.not_mem_nil) dX1_isBlock_20
    · refine lv_iconst (v := (nI 1)) hx hb dX1_isBlock_15 (by decide) ?_
      refine lv_goto (tgt := 20) hx hb dX1_isBlock_16 (by decide) ?_
      exact W.zret (v := (nI 1)) hx hb hr rfl (fun t9 ht9 hW9 => ⟨_, rfl, Or.inl ⟨rfl, ok_in (by omega) c1 c2⟩, ht9⟩) (fun q h => absurd h List.not_mem_nil) dX1_isBlock_20
set_option maxHeartbeats 4000000 in
set_option maxRecDepth 100000 in
theorem mX1_isExtent (l : Launch) (D : va_G) (h hf ho : Nat) (cI cB : ClassId) (G : Nat) (ec fd : Int32) (fm oa : Nat → Int32) (hG : G ≤ 4) (x : Int32) : Met l yX1_isExtent (ws_ yX1_isExtent cX1_isExtent 2 (some .boolean)) ({ frames := 1, cells := 0, slots := 0, locals := 21 } : Room) (gw_Ps D (gX h hf ho cI cB G ec fd fm oa) (tX cI cB) [.ref h, .int x]) (vp_Si (fun r => (r = 1 ∧ okE G oa x) ∨ (r = 0 ∧ ¬ okE G oa x))) 0 0 (fun _ => False) := by
  refine gw_ofS (by decide) (Nat.le_of_ble_eq_true rfl) ?_
  intro p e s m below meth c ls hx hb hr hml hown hts hlocks hP hK hl
  have hl : lv_has ls 2 [(0, .ref h), (1, .int x)] := hl
  have hown : s.vm.findClass RX1 = some m.cls := hown
  refine lv_aload_n hx hb dX1_isExtent_0 rfl (lv_at hl 0 rfl) ?_
  refine lv_iload_n hx hb dX1_isExtent_1 rfl (lv_at hl 1 rfl) ?_
  refine gw_cS (As := [.int x]) (rest := []) (ci := 0) (q0 := 0) ⟨hx, hb, hml, hown, hts⟩ (mX1_isBlock l D h hf ho cI cB G ec fd fm oa hG x) (cwV 1 hts (lw_V q56 q58 qs1 q20 q59) rfl rfl rfl (by decide +kernel) ⟨Nat.le_of_ble_eq_true rfl, Nat.le_of_ble_eq_true rfl⟩) hK hP rfl rfl rfl hl.1 rfl (Nat.le_of_ble_eq_true rfl) dX1_isExtent_2 ⟨Nat.zero_le _, Nat.zero_le _⟩ (fun r h1 => ?_)
  refine gx_if_eqP (tgt := 21) hx hb dX1_isExtent_5 (by decide) h1 (fun c1 => ?_) (fun c1 => ?_)
  · refine lv_iconst (v := (nI 0)) hx hb dX1_isExtent_21 (by decide) ?_
    exact W.zret (v := (nI 0)) hx hb hr rfl (fun t9 ht9 hW9 => ⟨_, rfl, Or.inr ⟨rfl, okE_ok c1⟩, ht9⟩) (fun q h => absurd h List.not_mem_nil) dX1_isExtent_22
  · obtain ⟨n, hn, rfl⟩ := c1
    refine lv_aload_n hx hb dX1_isExtent_8 rfl (lv_at hl 0 rfl) ?_
    refine va_get (D := D) (ci := 0) (v := .ref ho) (C := RX1) (T := TX1) (N := 5) hx hb hts in_X1 hown hK hP 0 rfl rfl 2 (by decide) (hts _ q32) (fun _ h9 => h9) rfl dX1_isExtent_9 ?_
    refine lv_iload_n hx hb dX1_isExtent_12 rfl (lv_at hl 1 rfl) ?_
    refine gx_bald hx hb hK hP 2 1 rfl rfl (by omega) (by decide) dX1_isExtent_13 ?_
    refine lv_if_lt (tgt := 21) hx hb dX1_isExtent_14 (by decide)  (fun c2 => ?_) (fun c2 => ?_)
    · refine lv_iconst (v := (nI 0)) hx hb dX1_isExtent_21 (by decide) ?_
      exact W.zret (v := (nI 0)) hx hb hr rfl (fun t9 ht9 hW9 => ⟨_, rfl, Or.inr ⟨rfl, okE_no hG hn c2⟩, ht9⟩) (fun q h => absurd h List.not_mem_nil) dX1_isExtent_22
    · refine lv_iconst (v := (nI 1)) hx hb dX1_isExtent_17 (by decide) ?_
      refine lv_goto (tgt := 22) hx hb dX1_isExtent_18 (by decide) ?_
      exact W.zret (v := (nI 1)) hx hb hr rfl (fun t9 ht9 hW9 => ⟨_, rfl, Or.inl ⟨rfl, n, hn, rfl, c2⟩, ht9⟩) (fun q h => absurd h List.not_mem_nil) dX1_isExtent_22
set_option maxHeartbeats 4000000 in
set_option maxRecDepth 100000 in
theorem mX1_freeIn (l : Launch) (D : va_G) (h hf ho : Nat) (cI cB : ClassId) (G : Nat) (ec fd : Int32) (fm oa : Nat → Int32) (g o : Nat) (hg : g < 4) (ho6 : o < 6) : Met l yX1_freeIn (ws_ yX1_freeIn cX1_freeIn 7 (some .int)) ({ frames := 0, cells := 0, slots := 0, locals := 0 } : Room) (gw_Ps D (gX h hf ho cI cB G ec fd fm oa) (tX cI cB) [.ref h, .int (nI g), .int (nI o)]) (vp_Si (fun r => r = nI (fr2 fm g o (6 - o)))) 0 0 (fun _ => False) := by
  refine gw_ofS (by decide) (Nat.le_of_ble_eq_true rfl) ?_
  intro p e s m below meth c ls hx hb hr hml hown hts hlocks hP hK hl
  have hl : lv_has ls 7 [(0, .ref h), (1, .int (nI g)), (2, .int (nI o))] := hl
  have hown : s.vm.findClass RX1 = some m.cls := hown
  refine lv_iconst (v := (nI 0)) hx hb dX1_freeIn_0 (by decide) ?_
  refine lv_istore_n (lv' := [(3, .int (nI 0)), (0, .ref h), (1, .int (nI g)), (2, .int (nI o))]) hx hb dX1_freeIn_1 rfl hl (by decide) rfl (fun ls hl => ?_)
  refine lv_iload_n hx hb dX1_freeIn_2 rfl (lv_at hl 3 rfl) ?_
  refine lv_istore (lv' := [(4, .int (nI o)), (3, .int (nI 0)), (0, .ref h), (1, .int (nI g)), (2, .int (nI o))]) hx hb dX1_freeIn_3 hl (by decide) rfl (fun ls hl => ?_)
  refine gx_loopP (σ := Nat) (fun t ls => t ≤ 6 - o ∧ lv_has ls 7 [(4, .int (nI (o + t))), (3, .int (nI (fr2 fm g o t))), (0, .ref h), (1, .int (nI g)), (2, .int (nI o))]) (fun t => 6 - o - t) 0 ⟨Nat.zero_le _, hl⟩ ?_
  intro t ls ⟨ht, hl⟩ ih
  refine lv_iload hx hb dX1_freeIn_5 (lv_at hl 0 rfl) ?_
  refine lv_bipush (v := (nI 6)) hx hb dX1_freeIn_7 (by decide) ?_
  refine gx_icmp_ge (tgt := 63) hx hb dX1_freeIn_9 (by decide) (by omega) (by omega) (fun c1 => ?_) (fun c1 => ?_)
  · refine lv_iload_n hx hb dX1_freeIn_63 rfl (lv_at hl 1 rfl) ?_
    have e : t = 6 - o := by omega
    exact W.iret (v := (nI (fr2 fm g o t))) hx hb hr (fun t9 ht9 hW9 => ⟨_, rfl, congrArg (fun z => nI (fr2 fm g o z)) e, ht9⟩) (fun q h => absurd h List.not_mem_nil) dX1_freeIn_64
  · refine lv_aload_n hx hb dX1_freeIn_12 rfl (lv_at hl 2 rfl) ?_
    refine va_get (D := D) (ci := 0) (v := .ref hf) (C := RX1) (T := TX1) (N := 5) hx hb hts in_X1 hown hK hP 0 rfl rfl 1 (by decide) (hts _ q31) (fun _ h9 => h9) rfl dX1_freeIn_13 ?_
    refine lv_bipush (v := (nI 6)) hx hb dX1_freeIn_16 (by decide) ?_
    refine lv_iload_n hx hb dX1_freeIn_18 rfl (lv_at hl 3 rfl) ?_
    refine gx_imul (n := 6 * g) hx hb dX1_freeIn_19 rfl ?_
    refine lv_iload hx hb dX1_freeIn_20 (lv_at hl 0 rfl) ?_
    refine gx_iadd (n := 6 * g + (o + t)) hx hb dX1_freeIn_22 rfl ?_
    refine gx_iald hx hb hK hP 1 0 rfl rfl (by omega) (by decide) dX1_freeIn_23 ?_
    refine lv_istore (lv' := [(5, .int (fm (6 * g + (o + t)))), (4, .int (nI (o + t))), (3, .int (nI (fr2 fm g o t))), (0, .ref h), (1, .int (nI g)), (2, .int (nI o))]) hx hb dX1_freeIn_24 hl (by decide) rfl (fun ls hl => ?_)
    refine lv_iconst (v := (nI 0)) hx hb dX1_freeIn_26 (by decide) ?_
    refine lv_istore (lv' := [(6, .int (nI 0)), (5, .int (fm (6 * g + (o + t)))), (4, .int (nI (o + t))), (3, .int (nI (fr2 fm g o t))), (0, .ref h), (1, .int (nI g)), (2, .int (nI o))]) hx hb dX1_freeIn_27 hl (by decide) rfl (fun ls hl => ?_)
    refine gx_loopP (σ := Nat) (fun i ls => i ≤ 32 ∧ lv_has ls 7 [(6, .int (nI i)), (3, .int (nI (fr2 fm g o t + fr1 (fm (6 * g + (o + t))) t i))), (5, .int (fm (6 * g + (o + t)))), (4, .int (nI (o + t))), (0, .ref h), (1, .int (nI g)), (2, .int (nI o))]) (fun i => 32 - i) 0 ⟨Nat.zero_le _, lv_sub hl [0, 3, 1, 2, 4, 5, 6] rfl⟩ ?_
    intro i ls ⟨hi, hl⟩ ih2
    refine lv_iload hx hb dX1_freeIn_29 (lv_at hl 0 rfl) ?_
    refine lv_bipush (v := (nI 32)) hx hb dX1_freeIn_31 (by decide) ?_
    refine gx_icmp_ge (tgt := 57) hx hb dX1_freeIn_33 (by decide) (by omega) (by omega) (fun c2 => ?_) (fun c2 => ?_)
    · have e : i = 32 := by omega
      subst e
      refine lv_iinc (v := (nI (o + t + 1))) (lv' := [(4, .int (nI (o + t + 1))), (6, .int (nI 32)), (3, .int (nI (fr2 fm g o t + fr1 (fm (6 * g + (o + t))) t 32))), (5, .int (fm (6 * g + (o + t)))), (0, .ref h), (1, .int (nI g)), (2, .int (nI o))]) hx hb dX1_freeIn_57 hl (k := 3) rfl (gn_inc (o + t)) (by decide) rfl (fun ls hl => ?_)
      refine lv_goto (tgt := 5) hx hb dX1_freeIn_60 (by decide) ?_
      exact ih (t + 1) ls ⟨by omega, lv_sub hl [0, 2, 4, 5, 6] rfl⟩ (by omega)
    · refine lv_iload_n hx hb dX1_freeIn_36 rfl (lv_at hl 1 rfl) ?_
      refine lv_iload hx hb dX1_freeIn_37 (lv_at hl 2 rfl) ?_
      refine lv_iload hx hb dX1_freeIn_39 (lv_at hl 0 rfl) ?_
      refine gx_iushr hx hb dX1_freeIn_41 ?_
      refine lv_iconst (v := (nI 1)) hx hb dX1_freeIn_42 (by decide) ?_
      refine gx_bit hx hb dX1_freeIn_43 (by omega) ?_
      refine lv_iload hx hb dX1_freeIn_44 (lv_at hl 3 rfl) ?_
      refine lv_iload_n hx hb dX1_freeIn_46 rfl (lv_at hl 6 rfl) ?_
      refine gx_isub (n := t) hx hb dX1_freeIn_47 (by omega) ?_
      refine gx_ishl (n := (bt (fm (6 * g + (o + t))) i).toNat * 2 ^ t) hx hb dX1_freeIn_48 (by omega) rfl (gp_bit _ (by omega)) ?_
      refine gx_iadd (n := fr2 fm g o t + fr1 (fm (6 * g + (o + t))) t (i + 1)) hx hb dX1_freeIn_49 (Nat.add_assoc _ _ _) ?_
      refine lv_istore_n (lv' := [(3, .int (nI (fr2 fm g o t + fr1 (fm (6 * g + (o + t))) t (i + 1)))), (6, .int (nI i)), (5, .int (fm (6 * g + (o + t)))), (4, .int (nI (o + t))), (0, .ref h), (1, .int (nI g)), (2, .int (nI o))]) hx hb dX1_freeIn_50 rfl hl (by decide) rfl (fun ls hl => ?_)
      refine lv_iinc (v := (nI (i + 1))) (lv' := [(6, .int (nI (i + 1))), (3, .int (nI (fr2 fm g o t + fr1 (fm (6 * g + (o + t))) t (i + 1)))), (5, .int (fm (6 * g + (o + t)))), (4, .int (nI (o + t))), (0, .ref h), (1, .int (nI g)), (2, .int (nI o))]) hx hb dX1_freeIn_51 hl (k := 1) rfl (gn_inc i) (by decide) rfl (fun ls hl => ?_)
      refine lv_goto (tgt := 29) hx hb dX1_freeIn_54 (by decide) ?_
      exact ih2 (i + 1) ls ⟨by omega, lv_sub hl [0, 1, 2, 3, 4, 5, 6] rfl⟩ (by omega)
set_option maxHeartbeats 4000000 in
set_option maxRecDepth 100000 in
theorem mX1_freeOrderAround (l : Launch) (D : va_G) (h hf ho : Nat) (cI cB : ClassId) (G : Nat) (ec fd : Int32) (fm oa : Nat → Int32) (g b : Nat) (hg : g < 4) (hb0 : b < 32) : Met l yX1_freeOrderAround (ws_ yX1_freeOrderAround cX1_freeOrderAround 4 (some .int)) ({ frames := 0, cells := 0, slots := 0, locals := 0 } : Room) (gw_Ps D (gX h hf ho cI cB G ec fd fm oa) (tX cI cB) [.ref h, .int (nI g), .int (nI b)]) (vp_Si (fun r => (∃ j, j < 6 ∧ r = nI j ∧ FOA fm g b j) ∨ (r = -1 ∧ ∀ j, j < 6 → Bt fm g j (b / 2 ^ j) = false))) 0 0 (fun _ => False) := by
  refine gw_ofS (by decide) (Nat.le_of_ble_eq_true rfl) ?_
  intro p e s m below meth c ls hx hb hr hml hown hts hlocks hP hK hl
  have hl : lv_has ls 4 [(0, .ref h), (1, .int (nI g)), (2, .int (nI b))] := hl
  have hown : s.vm.findClass RX1 = some m.cls := hown
  refine lv_iconst (v := (nI 0)) hx hb dX1_freeOrderAround_0 (by decide) ?_
  refine lv_istore_n (lv' := [(3, .int (nI 0)), (0, .ref h), (1, .int (nI g)), (2, .int (nI b))]) hx hb dX1_freeOrderAround_1 rfl hl (by decide) rfl (fun ls hl => ?_)
  refine gx_loopP (σ := Nat) (fun j ls => (j ≤ 6 ∧ ∀ i, i < j → Bt fm g i (b / 2 ^ i) = false) ∧ lv_has ls 4 [(3, .int (nI j)), (0, .ref h), (1, .int (nI g)), (2, .int (nI b))]) (fun j => 6 - j) 0 ⟨⟨Nat.zero_le _, fun i q => absurd q (Nat.not_lt_zero i)⟩, hl⟩ ?_
  intro j ls ⟨⟨hj, hn⟩, hl⟩ ih
  refine lv_iload_n hx hb dX1_freeOrderAround_2 rfl (lv_at hl 0 rfl) ?_
  refine lv_bipush (v := (nI 6)) hx hb dX1_freeOrderAround_3 (by decide) ?_
  refine gx_icmp_ge (tgt := 36) hx hb dX1_freeOrderAround_5 (by decide) (by omega) (by omega) (fun c1 => ?_) (fun c1 => ?_)
  · have e : j = 6 := by omega
    subst e
    refine lv_iconst (v := (-1)) hx hb dX1_freeOrderAround_36 (by decide) ?_
    exact W.iret (v := (-1)) hx hb hr (fun t9 ht9 hW9 => ⟨_, rfl, Or.inr ⟨rfl, hn⟩, ht9⟩) (fun q h => absurd h List.not_mem_nil) dX1_freeOrderAround_37
  · refine lv_aload_n hx hb dX1_freeOrderAround_8 rfl (lv_at hl 1 rfl) ?_
    refine va_get (D := D) (ci := 0) (v := .ref hf) (C := RX1) (T := TX1) (N := 5) hx hb hts in_X1 hown hK hP 0 rfl rfl 1 (by decide) (hts _ q31) (fun _ h9 => h9) rfl dX1_freeOrderAround_9 ?_
    refine lv_bipush (v := (nI 6)) hx hb dX1_freeOrderAround_12 (by decide) ?_
    refine lv_iload_n hx hb dX1_freeOrderAround_14 rfl (lv_at hl 2 rfl) ?_
    refine gx_imul (n := 6 * g) hx hb dX1_freeOrderAround_15 rfl ?_
    refine lv_iload_n hx hb dX1_freeOrderAround_16 rfl (lv_at hl 0 rfl) ?_
    refine gx_iadd (n := 6 * g + j) hx hb dX1_freeOrderAround_17 rfl ?_
    refine gx_iald hx hb hK hP 1 0 rfl rfl (by omega) (by decide) dX1_freeOrderAround_18 ?_
    refine lv_iload_n hx hb dX1_freeOrderAround_19 rfl (lv_at hl 3 rfl) ?_
    refine lv_iload_n hx hb dX1_freeOrderAround_20 rfl (lv_at hl 0 rfl) ?_
    refine gx_ishr (n := b / 2 ^ j) hx hb dX1_freeOrderAround_21 (by omega) (by omega) rfl ?_
    refine gx_iushr hx hb dX1_freeOrderAround_22 ?_
    refine lv_iconst (v := (nI 1)) hx hb dX1_freeOrderAround_23 (by decide) ?_
    refine gx_bit hx hb dX1_freeOrderAround_24 (gp_div hb0) ?_
    refine gx_if_eqB (tgt := 30) hx hb dX1_freeOrderAround_25 (by decide)  (fun c2 => ?_) (fun c2 => ?_)
    · refine lv_iinc (v := (nI (j + 1))) (lv' := [(3, .int (nI (j + 1))), (0, .ref h), (1, .int (nI g)), (2, .int (nI b))]) hx hb dX1_freeOrderAround_30 hl (k := 0) rfl (gn_inc j) (by decide) rfl (fun ls hl => ?_)
      refine lv_goto (tgt := 2) hx hb dX1_freeOrderAround_33 (by decide) ?_
      exact ih (j + 1) ls ⟨⟨by omega, lt_s hn c2⟩, lv_sub hl [0, 1, 2, 3] rfl⟩ (by omega)
    · refine lv_iload_n hx hb dX1_freeOrderAround_28 rfl (lv_at hl 0 rfl) ?_
      exact W.iret (v := (nI j)) hx hb hr (fun t9 ht9 hW9 => ⟨_, rfl, Or.inl ⟨j, by omega, rfl, c2, hn⟩, ht9⟩) (fun q h => absurd h List.not_mem_nil) dX1_freeOrderAround_29
theorem lv_m1lt (o : Nat) (h : o < 2 ^ 31) : (-1 : Int32) < nI o := by
  rw [Int32.lt_iff_toInt_lt, nI_toInt h]
  have h2 : (-1 : Int32).toInt = -1 := by decide
  omega
set_option maxHeartbeats 4000000 in
set_option maxRecDepth 100000 in
theorem mX1_isFreeRun (l : Launch) (D : va_G) (h hf ho : Nat) (cI cB : ClassId) (G : Nat) (ec fd : Int32) (fm oa : Nat → Int32) (g o b : Nat) (hg : g < 4) (ho6 : o < 6) (hb0 : b < 32) : Met l yX1_isFreeRun (ws_ yX1_isFreeRun cX1_isFreeRun 5 (some .boolean)) ({ frames := 1, cells := 0, slots := 0, locals := 23 } : Room) (gw_Ps D (gX h hf ho cI cB G ec fd fm oa) (tX cI cB) [.ref h, .int (nI g), .int (nI o), .int (nI b)]) (vp_Si (fun r => (r = 1 ∧ FR fm g o b) ∨ (r = 0 ∧ ¬ FR fm g o b))) 0 0 (fun _ => False) := by
  refine gw_ofS (by decide) (Nat.le_of_ble_eq_true rfl) ?_
  intro p e s m below meth c ls hx hb hr hml hown hts hlocks hP hK hl
  have hl : lv_has ls 5 [(0, .ref h), (1, .int (nI g)), (2, .int (nI o)), (3, .int (nI b))] := hl
  have hown : s.vm.findClass RX1 = some m.cls := hown
  refine lv_aload_n hx hb dX1_isFreeRun_0 rfl (lv_at hl 0 rfl) ?_
  refine lv_iload_n hx hb dX1_isFreeRun_1 rfl (lv_at hl 1 rfl) ?_
  refine lv_iload_n hx hb dX1_isFreeRun_2 rfl (lv_at hl 3 rfl) ?_
  refine gw_cS (As := [.int (nI g), .int (nI b)]) (rest := []) (ci := 0) (q0 := 0) ⟨hx, hb, hml, hown, hts⟩ (mX1_freeOrderAround l D h hf ho cI cB G ec fd fm oa g b hg hb0) (cwV 2 hts (lw_V q72 q74 qs5 q20 q75) rfl rfl rfl (by decide +kernel) ⟨Nat.le_of_ble_eq_true rfl, Nat.le_of_ble_eq_true rfl⟩) hK hP rfl rfl rfl hl.1 rfl (Nat.le_of_ble_eq_true rfl) dX1_isFreeRun_3 ⟨Nat.zero_le _, Nat.zero_le _⟩ (fun r h1 => ?_)
  rcases h1 with ⟨j, hj, rfl, h1⟩ | ⟨rfl, h1⟩
  · refine lv_istore (lv' := [(4, .int (nI j)), (0, .ref h), (1, .int (nI g)), (2, .int (nI o)), (3, .int (nI b))]) hx hb dX1_isFreeRun_6 hl (by decide) rfl (fun ls hl => ?_)
    refine lv_iload hx hb dX1_isFreeRun_8 (lv_at hl 0 rfl) ?_
    refine lv_iload_n hx hb dX1_isFreeRun_10 rfl (lv_at hl 3 rfl) ?_
    refine gx_icmp_lt (tgt := 18) hx hb dX1_isFreeRun_11 (by decide) (by omega) (by omega) (fun c1 => ?_) (fun c1 => ?_)
    · refine lv_iconst (v := (nI 0)) hx hb dX1_isFreeRun_18 (by decide) ?_
      exact W.zret (v := (nI 0)) hx hb hr rfl (fun t9 ht9 hW9 => ⟨_, rfl, Or.inr ⟨rfl, fun ⟨j2, h2, h3, h4⟩ => by have e := FOA_one h1 h4; omega⟩, ht9⟩) (fun q h => absurd h List.not_mem_nil) dX1_isFreeRun_19
    · refine lv_iconst (v := (nI 1)) hx hb dX1_isFreeRun_14 (by decide) ?_
      refine lv_goto (tgt := 19) hx hb dX1_isFreeRun_15 (by decide) ?_
      exact W.zret (v := (nI 1)) hx hb hr rfl (fun t9 ht9 hW9 => ⟨_, rfl, Or.inl ⟨rfl, j, hj, c1, h1⟩, ht9⟩) (fun q h => absurd h List.not_mem_nil) dX1_isFreeRun_19
  · refine lv_istore (lv' := [(4, .int (-1)), (0, .ref h), (1, .int (nI g)), (2, .int (nI o)), (3, .int (nI b))]) hx hb dX1_isFreeRun_6 hl (by decide) rfl (fun ls hl => ?_)
    refine lv_iload hx hb dX1_isFreeRun_8 (lv_at hl 0 rfl) ?_
    refine lv_iload_n hx hb dX1_isFreeRun_10 rfl (lv_at hl 3 rfl) ?_
    refine lv_icmp_lt (tgt := 18) hx hb dX1_isFreeRun_11 (by decide)  (fun c1 => ?_) (fun c1 => ?_)
    · refine lv_iconst (v := (nI 0)) hx hb dX1_isFreeRun_18 (by decide) ?_
      exact W.zret (v := (nI 0)) hx hb hr rfl (fun t9 ht9 hW9 => ⟨_, rfl, Or.inr ⟨rfl, fun ⟨j2, h2, h3, h4⟩ => by have e := h1 j2 h2; rw [h4.1] at e; cases e⟩, ht9⟩) (fun q h => absurd h List.not_mem_nil) dX1_isFreeRun_19
    · exact absurd (lv_m1lt o (by omega)) c1
/-- what extentOf answers of the block b -/
def XO (oa : Nat → Int32) (b : Nat) (r : Int32) : Prop := (∃ k, k < 6 ∧ r = nI (b / 2 ^ k * 2 ^ k) ∧ oa (b / 2 ^ k * 2 ^ k) = nI k) ∨ (r = -2 ∧ ∀ k, k < 6 → ¬ oa (b / 2 ^ k * 2 ^ k) = nI k)
theorem gp_base {b n : Nat} (j : Nat) (h : b < n) : b / 2 ^ j * 2 ^ j < n := Nat.lt_of_le_of_lt (Nat.div_mul_le_self _ _) h
set_option maxHeartbeats 4000000 in
set_option maxRecDepth 100000 in
theorem mX1_extentOf (l : Launch) (D : va_G) (h hf ho : Nat) (cI cB : ClassId) (G : Nat) (ec fd : Int32) (fm oa : Nat → Int32) (hG : G ≤ 4) (x : Int32) : Met l yX1_extentOf (ws_ yX1_extentOf cX1_extentOf 4 (some .int)) ({ frames := 1, cells := 0, slots := 0, locals := 21 } : Room) (gw_Ps D (gX h hf ho cI cB G ec fd fm oa) (tX cI cB) [.ref h, .int x]) (vp_Si (fun r => (¬ okN (32 * G) x ∧ r = -1) ∨ (∃ b, b < 32 * G ∧ x = nI b ∧ XO oa b r))) 0 0 (fun _ => False) := by
  refine gw_ofS (by decide) (Nat.le_of_ble_eq_true rfl) ?_
  intro p e s m below meth c ls hx hb hr hml hown hts hlocks hP hK hl
  have hl : lv_has ls 4 [(0, .ref h), (1, .int x)] := hl
  have hown : s.vm.findClass RX1 = some m.cls := hown
  refine lv_aload_n hx hb dX1_extentOf_0 rfl (lv_at hl 0 rfl) ?_
  refine lv_iload_n hx hb dX1_extentOf_1 rfl (lv_at hl 1 rfl) ?_
  refine gw_cS (As := [.int x]) (rest := []) (ci := 0) (q0 := 0) ⟨hx, hb, hml, hown, hts⟩ (mX1_isBlock l D h hf ho cI cB G ec fd fm oa hG x) (cwV 1 hts (lw_V q56 q58 qs1 q20 q59) rfl rfl rfl (by decide +kernel) ⟨Nat.le_of_ble_eq_true rfl, Nat.le_of_ble_eq_true rfl⟩) hK hP rfl rfl rfl hl.1 rfl (Nat.le_of_ble_eq_true rfl) dX1_extentOf_2 ⟨Nat.zero_le _, Nat.zero_le _⟩ (fun r h1 => ?_)
  refine gx_if_neP (tgt := 10) hx hb dX1_extentOf_5 (by decide) h1 (fun c1 => ?_) (fun c1 => ?_)
  · obtain ⟨b, hb0, rfl⟩ := c1
    refine lv_iconst (v := (nI 0)) hx hb dX1_extentOf_10 (by decide) ?_
    refine lv_istore_n (lv' := [(2, .int (nI 0)), (0, .ref h), (1, .int (nI b))]) hx hb dX1_extentOf_11 rfl hl (by decide) rfl (fun ls hl => ?_)
    refine gx_loopP (σ := Nat) (fun j ls => (j ≤ 6 ∧ ∀ i, i < j → ¬ oa (b / 2 ^ i * 2 ^ i) = nI i) ∧ lv_has ls 4 [(2, .int (nI j)), (0, .ref h), (1, .int (nI b))]) (fun j => 6 - j) 0 ⟨⟨Nat.zero_le _, fun i q => absurd q (Nat.not_lt_zero i)⟩, hl⟩ ?_
    intro j ls ⟨⟨hj, hn⟩, hl⟩ ih
    refine lv_iload_n hx hb dX1_extentOf_12 rfl (lv_at hl 0 rfl) ?_
    refine lv_bipush (v := (nI 6)) hx hb dX1_extentOf_13 (by decide) ?_
    refine gx_icmp_ge (tgt := 42) hx hb dX1_extentOf_15 (by decide) (by omega) (by omega) (fun c2 => ?_) (fun c2 => ?_)
    · have e : j = 6 := by omega
      subst e
      refine lv_bipush (v := (-2)) hx hb dX1_extentOf_42 (by decide) ?_
      exact W.iret (v := (-2)) hx hb hr (fun t9 ht9 hW9 => ⟨_, rfl, Or.inr ⟨b, hb0, rfl, Or.inr ⟨rfl, hn⟩⟩, ht9⟩) (fun q h => absurd h List.not_mem_nil) dX1_extentOf_44
    · have hbb := gp_base j hb0
      refine lv_iload_n hx hb dX1_extentOf_18 rfl (lv_at hl 2 rfl) ?_
      refine lv_iload_n hx hb dX1_extentOf_19 rfl (lv_at hl 0 rfl) ?_
      refine gx_ishr (n := b / 2 ^ j) hx hb dX1_extentOf_20 (by omega) (by omega) rfl ?_
      refine lv_iload_n hx hb dX1_extentOf_21 rfl (lv_at hl 0 rfl) ?_
      refine gx_ishl (n := (b / 2 ^ j) * 2 ^ j) hx hb dX1_extentOf_22 (by omega) rfl (by omega) ?_
      refine lv_istore_n (lv' := [(3, .int (nI ((b / 2 ^ j) * 2 ^ j))), (2, .int (nI j)), (0, .ref h), (1, .int (nI b))]) hx hb dX1_extentOf_23 rfl hl (by decide) rfl (fun ls hl => ?_)
      refine lv_aload_n hx hb dX1_extentOf_24 rfl (lv_at hl 2 rfl) ?_
      refine va_get (D := D) (ci := 0) (v := .ref ho) (C := RX1) (T := TX1) (N := 5) hx hb hts in_X1 hown hK hP 0 rfl rfl 2 (by decide) (hts _ q32) (fun _ h9 => h9) rfl dX1_extentOf_25 ?_
      refine lv_iload_n hx hb dX1_extentOf_28 rfl (lv_at hl 0 rfl) ?_
      refine gx_bald hx hb hK hP 2 1 rfl rfl (by omega) (by decide) dX1_extentOf_29 ?_
      refine lv_iload_n hx hb dX1_extentOf_30 rfl (lv_at hl 1 rfl) ?_
      refine lv_icmp_ne (tgt := 36) hx hb dX1_extentOf_31 (by decide)  (fun c3 => ?_) (fun c3 => ?_)
      · refine lv_iinc (v := (nI (j + 1))) (lv' := [(2, .int (nI (j + 1))), (3, .int (nI ((b / 2 ^ j) * 2 ^ j))), (0, .ref h), (1, .int (nI b))]) hx hb dX1_extentOf_36 hl (k := 1) rfl (gn_inc j) (by decide) rfl (fun ls hl => ?_)
        refine lv_goto (tgt := 12) hx hb dX1_extentOf_39 (by decide) ?_
        exact ih (j + 1) ls ⟨⟨by omega, lt_s hn c3⟩, lv_sub hl [0, 2, 3] rfl⟩ (by omega)
      · refine lv_iload_n hx hb dX1_extentOf_34 rfl (lv_at hl 0 rfl) ?_
        exact W.iret (v := (nI ((b / 2 ^ j) * 2 ^ j))) hx hb hr (fun t9 ht9 hW9 => ⟨_, rfl, Or.inr ⟨b, hb0, rfl, Or.inl ⟨j, c2, rfl, c3⟩⟩, ht9⟩) (fun q h => absurd h List.not_mem_nil) dX1_extentOf_35
  · refine lv_iconst (v := (-1)) hx hb dX1_extentOf_8 (by decide) ?_
    exact W.iret (v := (-1)) hx hb hr (fun t9 ht9 hW9 => ⟨_, rfl, Or.inl ⟨c1, rfl⟩, ht9⟩) (fun q h => absurd h List.not_mem_nil) dX1_extentOf_9
theorem ok_lt {N : Nat} {x : Int32} (hN : N < 2 ^ 31) (c1 : ¬ x < 0) (c2 : x < nI N) : okN N x := by
  obtain ⟨j, hj, rfl⟩ := nI_of c1
  rw [nI_ltI hj hN] at c2
  exact ⟨j, by omega, rfl⟩
theorem ok_nlt {N : Nat} {x : Int32} (hN : N < 2 ^ 31) (c2 : ¬ x < nI N) : ¬ okN N x := by
  rintro ⟨n, hn, rfl⟩
  rw [nI_ltI (by omega) hN] at c2
  omega
set_option maxHeartbeats 4000000 in
set_option maxRecDepth 100000 in
theorem mX1_freeBlocks (l : Launch) (D : va_G) (h hf ho : Nat) (cI cB : ClassId) (G : Nat) (ec fd : Int32) (fm oa : Nat → Int32) (hG : G ≤ 4) (x : Int32) : Met l yX1_freeBlocks (ws_ yX1_freeBlocks cX1_freeBlocks 2 (some .int)) ({ frames := 1, cells := 0, slots := 0, locals := 26 } : Room) (gw_Ps D (gX h hf ho cI cB G ec fd fm oa) (tX cI cB) [.ref h, .int x]) (vp_Si (fun r => (¬ okN G x ∧ r = -1) ∨ (∃ g, g < G ∧ x = nI g ∧ r = nI (fr2 fm g 0 6)))) 0 0 (fun _ => False) := by
  refine gw_ofS (by decide) (Nat.le_of_ble_eq_true rfl) ?_
  intro p e s m below meth c ls hx hb hr hml hown hts hlocks hP hK hl
  have hl : lv_has ls 2 [(0, .ref h), (1, .int x)] := hl
  have hown : s.vm.findClass RX1 = some m.cls := hown
  refine lv_iload_n hx hb dX1_freeBlocks_0 rfl (lv_at hl 1 rfl) ?_
  refine lv_if_lt (tgt := 12) hx hb dX1_freeBlocks_1 (by decide)  (fun c1 => ?_) (fun c1 => ?_)
  · refine lv_iconst (v := (-1)) hx hb dX1_freeBlocks_12 (by decide) ?_
    exact W.iret (v := (-1)) hx hb hr (fun t9 ht9 hW9 => ⟨_, rfl, Or.inl ⟨ok_neg (by omega) c1, rfl⟩, ht9⟩) (fun q h => absurd h List.not_mem_nil) dX1_freeBlocks_13
  · refine lv_iload_n hx hb dX1_freeBlocks_4 rfl (lv_at hl 1 rfl) ?_
    refine lv_aload_n hx hb dX1_freeBlocks_5 rfl (lv_at hl 0 rfl) ?_
    refine va_get (D := D) (ci := 0) (v := .int (nI G)) (C := RX1) (T := TX1) (N := 5) hx hb hts in_X1 hown hK hP 0 rfl rfl 0 (by decide) (hts _ q30) (fun _ h9 => h9) rfl dX1_freeBlocks_6 ?_
    refine lv_icmp_lt (tgt := 14) hx hb dX1_freeBlocks_9 (by decide)  (fun c2 => ?_) (fun c2 => ?_)
    · obtain ⟨g, hg, rfl⟩ := ok_lt (by omega) c1 c2
      refine lv_aload_n hx hb dX1_freeBlocks_14 rfl (lv_at hl 0 rfl) ?_
      refine lv_iload_n hx hb dX1_freeBlocks_15 rfl (lv_at hl 1 rfl) ?_
      refine lv_iconst (v := (nI 0)) hx hb dX1_freeBlocks_16 (by decide) ?_
      refine gw_cS (As := [.int (nI g), .int (nI 0)]) (rest := []) (ci := 0) (q0 := 0) ⟨hx, hb, hml, hown, hts⟩ (mX1_freeIn l D h hf ho cI cB G ec fd fm oa g 0 (by omega) (by decide)) (cwV 2 hts (lw_V q112 q114 qs9 q20 q115) rfl rfl rfl (by decide +kernel) ⟨Nat.le_of_ble_eq_true rfl, Nat.le_of_ble_eq_true rfl⟩) hK hP rfl rfl rfl hl.1 rfl (Nat.le_of_ble_eq_true rfl) dX1_freeBlocks_17 ⟨Nat.zero_le _, Nat.zero_le _⟩ (fun r h1 => ?_)
      exact W.iret (v := r) hx hb hr (fun t9 ht9 hW9 => ⟨_, rfl, Or.inr ⟨g, hg, rfl, h1⟩, ht9⟩) (fun q h => absurd h List.not_mem_nil) dX1_freeBlocks_20
    · refine lv_iconst (v := (-1)) hx hb dX1_freeBlocks_12 (by decide) ?_
      exact W.iret (v := (-1)) hx hb hr (fun t9 ht9 hW9 => ⟨_, rfl, Or.inl ⟨ok_nlt (by omega) c2, rfl⟩, ht9⟩) (fun q h => absurd h List.not_mem_nil) dX1_freeBlocks_13
/-- what largestFree answers of the group g -/
def XL (fm : Nat → Int32) (g : Nat) (r : Int32) : Prop := (∃ k, k < 6 ∧ r = nI k ∧ ¬ fm (6 * g + k) = 0 ∧ ∀ q, k < q → q < 6 → fm (6 * g + q) = 0) ∨ (r = -2 ∧ ∀ q, q < 6 → fm (6 * g + q) = 0)
set_option maxHeartbeats 4000000 in
set_option maxRecDepth 100000 in
theorem mX1_largestFree (l : Launch) (D : va_G) (h hf ho : Nat) (cI cB : ClassId) (G : Nat) (ec fd : Int32) (fm oa : Nat → Int32) (hG : G ≤ 4) (x : Int32) : Met l yX1_largestFree (ws_ yX1_largestFree cX1_largestFree 3 (some .int)) ({ frames := 0, cells := 0, slots := 0, locals := 0 } : Room) (gw_Ps D (gX h hf ho cI cB G ec fd fm oa) (tX cI cB) [.ref h, .int x]) (vp_Si (fun r => (¬ okN G x ∧ r = -1) ∨ (∃ g, g < G ∧ x = nI g ∧ XL fm g r))) 0 0 (fun _ => False) := by
  refine gw_ofS (by decide) (Nat.le_of_ble_eq_true rfl) ?_
  intro p e s m below meth c ls hx hb hr hml hown hts hlocks hP hK hl
  have hl : lv_has ls 3 [(0, .ref h), (1, .int x)] := hl
  have hown : s.vm.findClass RX1 = some m.cls := hown
  refine lv_iload_n hx hb dX1_largestFree_0 rfl (lv_at hl 1 rfl) ?_
  refine lv_if_lt (tgt := 12) hx hb dX1_largestFree_1 (by decide)  (fun c1 => ?_) (fun c1 => ?_)
  · refine lv_iconst (v := (-1)) hx hb dX1_largestFree_12 (by decide) ?_
    exact W.iret (v := (-1)) hx hb hr (fun t9 ht9 hW9 => ⟨_, rfl, Or.inl ⟨ok_neg (by omega) c1, rfl⟩, ht9⟩) (fun q h => absurd h List.not_mem_nil) dX1_largestFree_13
  · refine lv_iload_n hx hb dX1_largestFree_4 rfl (lv_at hl 1 rfl) ?_
    refine lv_aload_n hx hb dX1_largestFree_5 rfl (lv_at hl 0 rfl) ?_
    refine va_get (D := D) (ci := 0) (v := .int (nI G)) (C := RX1) (T := TX1) (N := 5) hx hb hts in_X1 hown hK hP 0 rfl rfl 0 (by decide) (hts _ q30) (fun _ h9 => h9) rfl dX1_largestFree_6 ?_
    refine lv_icmp_lt (tgt := 14) hx hb dX1_largestFree_9 (by decide)  (fun c2 => ?_) (fun c2 => ?_)
    · obtain ⟨g, hg, rfl⟩ := ok_lt (by omega) c1 c2
      refine lv_iconst (v := (nI 5)) hx hb dX1_largestFree_14 (by decide) ?_
      refine gx_top (y := (gd 6)) ((gd_s 5).symm) ?_
      refine lv_istore_n (lv' := [(2, .int (gd 6)), (0, .ref h), (1, .int (nI g))]) hx hb dX1_largestFree_15 rfl hl (by decide) rfl (fun ls hl => ?_)
      refine gx_loopP (σ := Nat) (fun t ls => (t ≤ 6 ∧ ∀ q, t ≤ q → q < 6 → fm (6 * g + q) = 0) ∧ lv_has ls 3 [(2, .int (gd t)), (0, .ref h), (1, .int (nI g))]) (fun t => t) 6 ⟨⟨Nat.le_refl _, fun q h1 h2 => by omega⟩, hl⟩ ?_
      intro t ls ⟨⟨ht, hn⟩, hl⟩ ih
      rcases t with _ | t
      · have hl : lv_has ls 3 [(2, .int (-1)), (0, .ref h), (1, .int (nI g))] := hl
        refine lv_iload_n hx hb dX1_largestFree_16 rfl (lv_at hl 0 rfl) ?_
        refine lv_if_lt (tgt := 42) hx hb dX1_largestFree_17 (by decide)  (fun c3 => ?_) (fun c3 => ?_)
        · refine lv_bipush (v := (-2)) hx hb dX1_largestFree_42 (by decide) ?_
          exact W.iret (v := (-2)) hx hb hr (fun t9 ht9 hW9 => ⟨_, rfl, Or.inr ⟨g, hg, rfl, Or.inr ⟨rfl, fun q h2 => hn q (Nat.zero_le _) h2⟩⟩, ht9⟩) (fun q h => absurd h List.not_mem_nil) dX1_largestFree_44
        · exact absurd (by decide) c3
      · rw [gd_s] at hl
        refine lv_iload_n hx hb dX1_largestFree_16 rfl (lv_at hl 0 rfl) ?_
        refine lv_if_lt (tgt := 42) hx hb dX1_largestFree_17 (by decide)  (fun c3 => ?_) (fun c3 => ?_)
        · exact absurd c3 (gn_nlt (by omega))
        · refine lv_aload_n hx hb dX1_largestFree_20 rfl (lv_at hl 1 rfl) ?_
          refine va_get (D := D) (ci := 0) (v := .ref hf) (C := RX1) (T := TX1) (N := 5) hx hb hts in_X1 hown hK hP 0 rfl rfl 1 (by decide) (hts _ q31) (fun _ h9 => h9) rfl dX1_largestFree_21 ?_
          refine lv_bipush (v := (nI 6)) hx hb dX1_largestFree_24 (by decide) ?_
          refine lv_iload_n hx hb dX1_largestFree_26 rfl (lv_at hl 2 rfl) ?_
          refine gx_imul (n := 6 * g) hx hb dX1_largestFree_27 rfl ?_
          refine lv_iload_n hx hb dX1_largestFree_28 rfl (lv_at hl 0 rfl) ?_
          refine gx_iadd (n := 6 * g + t) hx hb dX1_largestFree_29 rfl ?_
          refine gx_iald hx hb hK hP 1 0 rfl rfl (by omega) (by decide) dX1_largestFree_30 ?_
          refine lv_if_eq (tgt := 36) hx hb dX1_largestFree_31 (by decide)  (fun c4 => ?_) (fun c4 => ?_)
          · refine lv_iinc (v := (gd t)) (lv' := [(2, .int (gd t)), (0, .ref h), (1, .int (nI g))]) hx hb dX1_largestFree_36 hl (k := 0) rfl (gd_dec t) (by decide) rfl (fun ls hl => ?_)
            refine lv_goto (tgt := 16) hx hb dX1_largestFree_39 (by decide) ?_
            exact ih t ls ⟨⟨by omega, fun q h1 h2 => by rcases Nat.lt_or_ge t q with z | z; exact hn q z h2; rw [show q = t by omega]; exact c4⟩, lv_sub hl [0, 1, 2] rfl⟩ (Nat.lt_succ_self t)
          · refine lv_iload_n hx hb dX1_largestFree_34 rfl (lv_at hl 0 rfl) ?_
            exact W.iret (v := (nI t)) hx hb hr (fun t9 ht9 hW9 => ⟨_, rfl, Or.inr ⟨g, hg, rfl, Or.inl ⟨t, by omega, rfl, c4, fun q h1 h2 => hn q h1 h2⟩⟩, ht9⟩) (fun q h => absurd h List.not_mem_nil) dX1_largestFree_35
    · refine lv_iconst (v := (-1)) hx hb dX1_largestFree_12 (by decide) ?_
      exact W.iret (v := (-1)) hx hb hr (fun t9 ht9 hW9 => ⟨_, rfl, Or.inl ⟨ok_nlt (by omega) c2, rfl⟩, ht9⟩) (fun q h => absurd h List.not_mem_nil) dX1_largestFree_13
set_option maxHeartbeats 4000000 in
set_option maxRecDepth 100000 in
theorem mX1_freeRuns (l : Launch) (D : va_G) (h hf ho : Nat) (cI cB : ClassId) (G : Nat) (ec fd : Int32) (fm oa : Nat → Int32) (hG : G ≤ 4) (x : Int32) : Met l yX1_freeRuns (ws_ yX1_freeRuns cX1_freeRuns 4 (some .int)) ({ frames := 1, cells := 0, slots := 0, locals := 26 } : Room) (gw_Ps D (gX h hf ho cI cB G ec fd fm oa) (tX cI cB) [.ref h, .int x]) (vp_Si (fun r => (¬ okN 6 x ∧ r = -1) ∨ (∃ o, o < 6 ∧ x = nI o ∧ r = nI (fr3 fm o G)))) 0 0 (fun _ => False) := by
  refine gw_ofS (by decide) (Nat.le_of_ble_eq_true rfl) ?_
  intro p e s m below meth c ls hx hb hr hml hown hts hlocks hP hK hl
  have hl : lv_has ls 4 [(0, .ref h), (1, .int x)] := hl
  have hown : s.vm.findClass RX1 = some m.cls := hown
  refine lv_aload_n hx hb dX1_freeRuns_0 rfl (lv_at hl 0 rfl) ?_
  refine lv_iload_n hx hb dX1_freeRuns_1 rfl (lv_at hl 1 rfl) ?_
  refine gw_cS (As := [.int x]) (rest := []) (ci := 0) (q0 := 0) ⟨hx, hb, hml, hown, hts⟩ (mX1_isOrder l D h hf ho cI cB G ec fd fm oa x) (cwV 1 hts (lw_V q52 q54 qs0 q20 q55) rfl rfl rfl (by decide +kernel) ⟨Nat.le_of_ble_eq_true rfl, Nat.le_of_ble_eq_true rfl⟩) hK hP rfl rfl rfl hl.1 rfl (Nat.le_of_ble_eq_true rfl) dX1_freeRuns_2 ⟨Nat.zero_le _, Nat.zero_le _⟩ (fun r h1 => ?_)
  refine gx_if_neP (tgt := 10) hx hb dX1_freeRuns_5 (by decide) h1 (fun c1 => ?_) (fun c1 => ?_)
  · obtain ⟨o, ho6, rfl⟩ := c1
    refine lv_iconst (v := (nI 0)) hx hb dX1_freeRuns_10 (by decide) ?_
    refine lv_istore_n (lv' := [(2, .int (nI 0)), (0, .ref h), (1, .int (nI o))]) hx hb dX1_freeRuns_11 rfl hl (by decide) rfl (fun ls hl => ?_)
    refine lv_iconst (v := (nI 0)) hx hb dX1_freeRuns_12 (by decide) ?_
    refine lv_istore_n (lv' := [(3, .int (nI 0)), (2, .int (nI 0)), (0, .ref h), (1, .int (nI o))]) hx hb dX1_freeRuns_13 rfl hl (by decide) rfl (fun ls hl => ?_)
    refine gx_loopP (σ := Nat) (fun g ls => g ≤ G ∧ lv_has ls 4 [(3, .int (nI g)), (2, .int (nI (fr3 fm o g))), (0, .ref h), (1, .int (nI o))]) (fun g => G - g) 0 ⟨Nat.zero_le _, hl⟩ ?_
    intro g ls ⟨hg, hl⟩ ih
    refine lv_iload_n hx hb dX1_freeRuns_14 rfl (lv_at hl 0 rfl) ?_
    refine lv_aload_n hx hb dX1_freeRuns_15 rfl (lv_at hl 2 rfl) ?_
    refine va_get (D := D) (ci := 0) (v := .int (nI G)) (C := RX1) (T := TX1) (N := 5) hx hb hts in_X1 hown hK hP 0 rfl rfl 0 (by decide) (hts _ q30) (fun _ h9 => h9) rfl dX1_freeRuns_16 ?_
    refine gx_icmp_ge (tgt := 37) hx hb dX1_freeRuns_19 (by decide) (by omega) (by omega) (fun c2 => ?_) (fun c2 => ?_)
    · have e : g = G := by omega
      subst e
      refine lv_iload_n hx hb dX1_freeRuns_37 rfl (lv_at hl 1 rfl) ?_
      exact W.iret (v := (nI (fr3 fm o g))) hx hb hr (fun t9 ht9 hW9 => ⟨_, rfl, Or.inr ⟨o, ho6, rfl, rfl⟩, ht9⟩) (fun q h => absurd h List.not_mem_nil) dX1_freeRuns_38
    · refine lv_iload_n hx hb dX1_freeRuns_22 rfl (lv_at hl 1 rfl) ?_
      refine lv_aload_n hx hb dX1_freeRuns_23 rfl (lv_at hl 2 rfl) ?_
      refine lv_iload_n hx hb dX1_freeRuns_24 rfl (lv_at hl 0 rfl) ?_
      refine lv_iload_n hx hb dX1_freeRuns_25 rfl (lv_at hl 3 rfl) ?_
      refine gw_cS (As := [.int (nI g), .int (nI o)]) (rest := [.int (nI (fr3 fm o g))]) (ci := 0) (q0 := 0) ⟨hx, hb, hml, hown, hts⟩ (mX1_freeIn l D h hf ho cI cB G ec fd fm oa g o (by omega) ho6) (cwV 2 hts (lw_V q112 q114 qs9 q20 q115) rfl rfl rfl (by decide +kernel) ⟨Nat.le_of_ble_eq_true rfl, Nat.le_of_ble_eq_true rfl⟩) hK hP rfl rfl rfl hl.1 rfl (Nat.le_of_ble_eq_true rfl) dX1_freeRuns_26 ⟨Nat.zero_le _, Nat.zero_le _⟩ (fun r h2 => ?_)
      subst h2
      refine gx_iadd (n := fr3 fm o (g + 1)) hx hb dX1_freeRuns_29 rfl ?_
      refine lv_istore_n (lv' := [(2, .int (nI (fr3 fm o (g + 1)))), (3, .int (nI g)), (0, .ref h), (1, .int (nI o))]) hx hb dX1_freeRuns_30 rfl hl (by decide) rfl (fun ls hl => ?_)
      refine lv_iinc (v := (nI (g + 1))) (lv' := [(3, .int (nI (g + 1))), (2, .int (nI (fr3 fm o (g + 1)))), (0, .ref h), (1, .int (nI o))]) hx hb dX1_freeRuns_31 hl (k := 1) rfl (gn_inc g) (by decide) rfl (fun ls hl => ?_)
      refine lv_goto (tgt := 14) hx hb dX1_freeRuns_34 (by decide) ?_
      exact ih (g + 1) ls ⟨by omega, lv_sub hl [0, 1, 2, 3] rfl⟩ (by omega)
  · refine lv_iconst (v := (-1)) hx hb dX1_freeRuns_8 (by decide) ?_
    exact W.iret (v := (-1)) hx hb hr (fun t9 ht9 hW9 => ⟨_, rfl, Or.inl ⟨c1, rfl⟩, ht9⟩) (fun q h => absurd h List.not_mem_nil) dX1_freeRuns_9
set_option maxHeartbeats 4000000 in
set_option maxRecDepth 100000 in
theorem mX1_extents (l : Launch) (D : va_G) (h hf ho : Nat) (cI cB : ClassId) (G : Nat) (ec fd : Int32) (fm oa : Nat → Int32)  : Met l yX1_extents (ws_ yX1_extents cX1_extents 1 (some .int)) ({ frames := 0, cells := 0, slots := 0, locals := 0 } : Room) (gw_Ps D (gX h hf ho cI cB G ec fd fm oa) (tX cI cB) [.ref h]) (vp_Si (fun r => r = ec)) 0 0 (fun _ => False) := by
  refine gw_ofS (by decide) (Nat.le_of_ble_eq_true rfl) ?_
  intro p e s m below meth c ls hx hb hr hml hown hts hlocks hP hK hl
  have hl : lv_has ls 1 [(0, .ref h)] := hl
  have hown : s.vm.findClass RX1 = some m.cls := hown
  refine lv_aload_n hx hb dX1_extents_0 rfl (lv_at hl 0 rfl) ?_
  refine va_get (D := D) (ci := 0) (v := .int ec) (C := RX1) (T := TX1) (N := 5) hx hb hts in_X1 hown hK hP 0 rfl rfl 3 (by decide) (hts _ q33) (fun _ h9 => h9) rfl dX1_extents_1 ?_
  exact W.iret (v := ec) hx hb hr (fun t9 ht9 hW9 => ⟨_, rfl, rfl, ht9⟩) (fun q h => absurd h List.not_mem_nil) dX1_extents_4
end
section
/-! what the writing methods of the allocator do to the maps, by bits -/
theorem gp_xor {a : Nat} (h : a < 32) : a ^^^ 1 < 32 := Nat.xor_lt_two_pow (n := 5) h (by decide)
/-- a run around the block b is taken out of the run of order J0 around it, its other halves from order o on stay free -/
def CV (fm fm' : Nat → Int32) (g o b J0 : Nat) : Prop := ∀ q j i, q < 4 → j < 6 → i < 32 → Bt fm' q j i = (if q = g ∧ j = J0 then Bt fm q j i && !decide (i = b / 2 ^ j) else if q = g ∧ o ≤ j ∧ j < J0 then Bt fm q j i || decide (i = (b / 2 ^ j) ^^^ 1) else Bt fm q j i)
theorem CV_0 {fm : Nat → Int32} {g b J0 : Nat} (hg : g < 4) (hb : b < 32) (hJ : J0 < 6) : CV fm (upd fm (6 * g + J0) (fm (6 * g + J0) &&& (nI (2 ^ (b / 2 ^ J0)) ^^^ (-1)))) g J0 b J0 := by
  intro q j i hq hj hi
  unfold Bt
  by_cases h : q = g ∧ j = J0
  · obtain ⟨rfl, rfl⟩ := h
    rw [pk_us, gb_clr (gp_div hb) hi, if_pos ⟨rfl, rfl⟩]
  · rw [pk_un (by omega), if_neg h, if_neg (by omega)]
theorem CV_s {fm fm1 : Nat → Int32} {g b J J0 : Nat} (hg : g < 4) (hb : b < 32) (hJ : J < J0) (hJ0 : J0 < 6) (h : CV fm fm1 g (J + 1) b J0) : CV fm (upd fm1 (6 * g + J) (fm1 (6 * g + J) ||| nI (2 ^ ((b / 2 ^ J) ^^^ 1)))) g J b J0 := by
  intro q j i hq hj hi
  have h1 := h q j i hq hj hi
  by_cases e : q = g ∧ j = J
  · obtain ⟨rfl, rfl⟩ := e
    rw [if_neg (by omega), if_neg (by omega)] at h1
    rw [if_neg (by omega), if_pos (by omega)]
    unfold Bt at h1 ⊢
    rw [pk_us, gb_set (gp_xor (gp_div hb)) hi, h1]
  · have h2 : Bt (upd fm1 (6 * g + J) (fm1 (6 * g + J) ||| nI (2 ^ ((b / 2 ^ J) ^^^ 1)))) q j i = Bt fm1 q j i := by
      unfold Bt
      rw [pk_un (by omega)]
    rw [h2, h1]
    by_cases e1 : q = g ∧ j = J0
    · rw [if_pos e1, if_pos e1]
    · rw [if_neg e1, if_neg e1]
      by_cases e2 : q = g ∧ J + 1 ≤ j ∧ j < J0
      · rw [if_pos e2, if_pos (by omega)]
      · rw [if_neg e2, if_neg (by omega)]
theorem CV_x {fm fm1 : Nat → Int32} {g o b J J0 : Nat} (h1 : J ≤ o) (h2 : o ≤ J ∨ J = J0) (h : CV fm fm1 g J b J0) : CV fm fm1 g o b J0 := by
  rcases h2 with q | q
  · have e : J = o := by omega
    rw [← e]; exact h
  · intro a j i hq hj hi
    rw [h a j i hq hj hi]
    by_cases e1 : a = g ∧ j = J0
    · rw [if_pos e1, if_pos e1]
    · rw [if_neg e1, if_neg e1, if_neg (by omega), if_neg (by omega)]
/-- the run of order o around b is made free; J: the order to which it is joined -/
def GI (fm fm1 : Nat → Int32) (g o b J : Nat) : Prop := ∀ q j i, q < 4 → j < 6 → i < 32 → Bt fm1 q j i = (if q = g ∧ o ≤ j ∧ j < J then Bt fm q j i && !decide (i = (b / 2 ^ j) ^^^ 1) else Bt fm q j i)
def GB (fm fm1 : Nat → Int32) (g o b J : Nat) : Prop := ∀ q j i, q < 4 → j < 6 → i < 32 → Bt fm1 q j i = (if q = g ∧ j = J then Bt fm q j i || decide (i = b / 2 ^ j) else if q = g ∧ o ≤ j ∧ j < J then Bt fm q j i && !decide (i = (b / 2 ^ j) ^^^ 1) else Bt fm q j i)
/-- the other halves are free up to J, not at J -/
def GJ (fm : Nat → Int32) (g o b J : Nat) : Prop := o ≤ J ∧ J < 6 ∧ (∀ j, o ≤ j → j < J → Bt fm g j ((b / 2 ^ j) ^^^ 1) = true) ∧ (J = 5 ∨ Bt fm g J ((b / 2 ^ J) ^^^ 1) = false)
theorem GI_0 {fm : Nat → Int32} {g o b : Nat} : GI fm fm g o b o := by
  intro q j i hq hj hi
  rw [if_neg (by omega)]
theorem GI_at {fm fm1 : Nat → Int32} {g o b J i : Nat} (hg : g < 4) (hJ : J < 6) (hi : i < 32) (h : GI fm fm1 g o b J) : Bt fm1 g J i = Bt fm g J i := by
  rw [h g J i hg hJ hi, if_neg (by omega)]
theorem GI_s {fm fm1 : Nat → Int32} {g o b J : Nat} (hg : g < 4) (hb : b < 32) (ho : o ≤ J) (hJ : J < 5) (h : GI fm fm1 g o b J) : GI fm (upd fm1 (6 * g + J) (fm1 (6 * g + J) &&& (nI (2 ^ ((b / 2 ^ J) ^^^ 1)) ^^^ (-1)))) g o b (J + 1) := by
  intro q j i hq hj hi
  have h1 := h q j i hq hj hi
  by_cases e : q = g ∧ j = J
  · obtain ⟨rfl, rfl⟩ := e
    rw [if_neg (by omega)] at h1
    rw [if_pos (by omega)]
    unfold Bt at h1 ⊢
    rw [pk_us, gb_clr (gp_xor (gp_div hb)) hi, h1]
  · have h2 : Bt (upd fm1 (6 * g + J) (fm1 (6 * g + J) &&& (nI (2 ^ ((b / 2 ^ J) ^^^ 1)) ^^^ (-1)))) q j i = Bt fm1 q j i := by
      unfold Bt
      rw [pk_un (by omega)]
    rw [h2, h1]
    by_cases e2 : q = g ∧ o ≤ j ∧ j < J
    · rw [if_pos e2, if_pos (by omega)]
    · rw [if_neg e2, if_neg (by omega)]
theorem GB_of {fm fm1 : Nat → Int32} {g o b J : Nat} (hg : g < 4) (hb : b < 32) (hJ : J < 6) (h : GI fm fm1 g o b J) : GB fm (upd fm1 (6 * g + J) (fm1 (6 * g + J) ||| nI (2 ^ (b / 2 ^ J)))) g o b J := by
  intro q j i hq hj hi
  have h1 := h q j i hq hj hi
  by_cases e : q = g ∧ j = J
  · obtain ⟨rfl, rfl⟩ := e
    rw [if_neg (by omega)] at h1
    rw [if_pos ⟨rfl, rfl⟩]
    unfold Bt at h1 ⊢
    rw [pk_us, gb_set (gp_div hb) hi, h1]
  · have h2 : Bt (upd fm1 (6 * g + J) (fm1 (6 * g + J) ||| nI (2 ^ (b / 2 ^ J)))) q j i = Bt fm1 q j i := by
      unfold Bt
      rw [pk_un (by omega)]
    rw [h2, h1, if_neg e]
/-- a run of the map that the search can use, with from = fr -/
def SRc (fm : Nat → Int32) (g o fr j i : Nat) : Prop := o ≤ j ∧ j < 6 ∧ i * 2 ^ j < 32 ∧ Bt fm g j i = true ∧ max (i * 2 ^ j) fr + 2 ^ o ≤ i * 2 ^ j + 2 ^ j
/-- f is the least place so far -/
def SRI (fm : Nat → Int32) (g o fr f : Nat) (P : Nat → Nat → Prop) : Prop := f ≤ 32 ∧ (∀ j i, P j i → SRc fm g o fr j i → f ≤ max (i * 2 ^ j) fr) ∧ (f = 32 ∨ ∃ j i, SRc fm g o fr j i ∧ f = max (i * 2 ^ j) fr)
def gfr (o least : Nat) : Nat := (least + 2 ^ o - 1) / 2 ^ o * 2 ^ o
def SRF (fm : Nat → Int32) (g o least f : Nat) : Prop := SRI fm g o (gfr o least) f (fun _ _ => True)
theorem SRI_0 {fm : Nat → Int32} {g o fr : Nat} : SRI fm g o fr 32 (fun j _ => j < o) := ⟨Nat.le_refl _, fun j i h1 h2 => by have := h2.1; omega, Or.inl rfl⟩
theorem SRI_in {fm : Nat → Int32} {g o fr f j : Nat} (h : SRI fm g o fr f (fun a _ => a < j)) : SRI fm g o fr f (fun a i => a < j ∨ (a = j ∧ i < 0)) :=
  ⟨h.1, fun a i h1 h2 => h.2.1 a i (by omega) h2, h.2.2⟩
theorem SRI_out {fm : Nat → Int32} {g o fr f j i : Nat} (hi : 32 ≤ i * 2 ^ j) (h : SRI fm g o fr f (fun a b => a < j ∨ (a = j ∧ b < i))) : SRI fm g o fr f (fun a _ => a < j + 1) := by
  refine ⟨h.1, fun a b h1 h2 => ?_, h.2.2⟩
  rcases Nat.lt_or_ge a j with q | q
  · exact h.2.1 a b (Or.inl q) h2
  · have e : a = j := by omega
    subst e
    rcases Nat.lt_or_ge b i with q2 | q2
    · exact h.2.1 a b (Or.inr ⟨rfl, q2⟩) h2
    · have h3 := h2.2.2.1
      have h4 : i * 2 ^ a ≤ b * 2 ^ a := Nat.mul_le_mul_right _ q2
      omega
theorem SRI_skip {fm : Nat → Int32} {g o fr f j i : Nat} (hs : SRc fm g o fr j i → f ≤ max (i * 2 ^ j) fr) (h : SRI fm g o fr f (fun a b => a < j ∨ (a = j ∧ b < i))) : SRI fm g o fr f (fun a b => a < j ∨ (a = j ∧ b < i + 1)) := by
  refine ⟨h.1, fun a b h1 h2 => ?_, h.2.2⟩
  by_cases e : a = j ∧ b = i
  · obtain ⟨rfl, rfl⟩ := e
    exact hs h2
  · exact h.2.1 a b (by omega) h2
theorem SRI_take {fm : Nat → Int32} {g o fr f j i : Nat} (hc : SRc fm g o fr j i) (hlt : max (i * 2 ^ j) fr < f) (h : SRI fm g o fr f (fun a b => a < j ∨ (a = j ∧ b < i))) : SRI fm g o fr (max (i * 2 ^ j) fr) (fun a b => a < j ∨ (a = j ∧ b < i + 1)) := by
  have h0 := h.1
  refine ⟨by omega, fun a b h1 h2 => ?_, Or.inr ⟨j, i, hc, rfl⟩⟩
  by_cases e : a = j ∧ b = i
  · obtain ⟨rfl, rfl⟩ := e
    exact Nat.le_refl _
  · have := h.2.1 a b (by omega) h2
    omega
theorem SRI_end {fm : Nat → Int32} {g o least f j : Nat} (hj : 6 ≤ j) (h : SRI fm g o (gfr o least) f (fun a _ => a < j)) : SRF fm g o least f :=
  ⟨h.1, fun a b _ h2 => h.2.1 a b (by have := h2.2.1; show a < j; omega) h2, h.2.2⟩
/-- what the search has found lies in a run of the map -/
theorem SRF_foa {fm : Nat → Int32} {g o least f : Nat} (h : SRF fm g o least f) (hf : f < 32) : ∃ j, j < 6 ∧ FOA fm g f j := by
  rcases h.2.2 with q | ⟨j, i, ⟨h1, h2, h3, h4, h5⟩, e⟩
  · omega
  · have hb : f / 2 ^ j = i := by
      have h6 : 0 < 2 ^ o := Nat.two_pow_pos o
      have h7 : i * 2 ^ j ≤ f := by omega
      have h8 : f < (i + 1) * 2 ^ j := by rw [Nat.add_mul, Nat.one_mul]; omega
      exact Nat.div_eq_of_lt_le h7 h8
    have hex : ∃ j, j < 6 ∧ Bt fm g j (f / 2 ^ j) = true := ⟨j, h2, by rw [hb]; exact h4⟩
    obtain ⟨k, ⟨hk1, hk2⟩, hk3⟩ := pk_least (fun k => k < 6 ∧ Bt fm g k (f / 2 ^ k) = true) hex
    refine ⟨k, hk1, hk2, fun a ha => ?_⟩
    cases hq : Bt fm g a (f / 2 ^ a) with
    | false => rfl
    | true => exact absurd ⟨by omega, hq⟩ (hk3 a ha)
/-- the run of order o at place f of group g is taken: what occupy does -/
def MK (fm oa : Nat → Int32) (ec : Int32) (g o f : Nat) (r : Int32) (u : Int32 × Int32 × (Nat → Int32) × (Nat → Int32)) : Prop := ∃ j0, j0 < 6 ∧ FOA fm g f j0 ∧ r = nI (32 * g + f) ∧ ∃ fm', CV fm fm' g o f j0 ∧ u = (ec + nI 1, nI f, fm', upd oa (32 * g + f) (nI o))
/-- the bytes of the orders: -1, or an order that the block is a first block of -/
def wfO (G : Nat) (oa : Nat → Int32) : Prop := ∀ b, b < 32 * G → oa b = -1 ∨ ∃ k, k < 6 ∧ oa b = nI k ∧ b % 2 ^ k = 0
theorem wfO_at {G b : Nat} {oa : Nat → Int32} (h : wfO G oa) (hb : b < 32 * G) (c : ¬ oa b < 0) : ∃ k, k < 6 ∧ oa b = nI k ∧ b % 2 ^ k = 0 := by
  rcases h b hb with q | q
  · rw [q] at c
    exact absurd (by decide) c
  · exact q
end
section
theorem gl_left {ls : Array Slot} {n : Nat} {a z : List (Nat × Value)} (h : lv_has ls n (a ++ z)) : lv_has ls n a := ⟨h.1, h.2.1, fun q hq => h.2.2 q (List.mem_append_left _ hq)⟩
set_option maxHeartbeats 4000000 in
set_option maxRecDepth 100000 in
theorem mX1_carve (l : Launch) (D : va_G) (h hf ho : Nat) (cI cB : ClassId) (G : Nat) (ec fd : Int32) (fm oa : Nat → Int32) (sz : Nat) (g o b J0 : Nat) (hg : g < 4) (ho6 : o < 6) (hb0 : b < 32) (hJ0 : J0 < 6) (hF : FOA fm g b J0) : Met l yX1_carve (ws_ yX1_carve cX1_carve 6 none) ({ frames := 1, cells := 0, slots := 0, locals := 23 } : Room) (gw_Pc D (gX h hf ho cI cB G ec fd fm oa) (tX cI cB) sz [.ref h, .int (nI g), .int (nI o), .int (nI b)]) (gw_V D (tX cI cB) (fun u : (Int32 × Int32 × (Nat → Int32) × (Nat → Int32)) => gX h hf ho cI cB G u.1 u.2.1 u.2.2.1 u.2.2.2) (fun (u : (Int32 × Int32 × (Nat → Int32) × (Nat → Int32))) => ∃ fm', CV fm fm' g o b J0 ∧ u = (ec, fd, fm', oa)) (va_A (gX h hf ho cI cB G ec fd fm oa) sz)) 0 0 (va_A (gX h hf ho cI cB G ec fd fm oa) sz) := by
  refine gw_ofQ (gw_V D (tX cI cB) (fun u : (Int32 × Int32 × (Nat → Int32) × (Nat → Int32)) => gX h hf ho cI cB G u.1 u.2.1 u.2.2.1 u.2.2.2) (fun (u : (Int32 × Int32 × (Nat → Int32) × (Nat → Int32))) => ∃ fm', CV fm fm' g o b J0 ∧ u = (ec, fd, fm', oa))) (by decide) (Nat.le_of_ble_eq_true rfl) ?_
  intro p e s m below meth c ls A hx hb hr hml hown hts hlocks _ hP hK hD hS hA hl
  have hl : lv_has ls 6 [(0, .ref h), (1, .int (nI g)), (2, .int (nI o)), (3, .int (nI b))] := hl
  have hown : s.vm.findClass RX1 = some m.cls := hown
  have hP : va_P D vwCl (gX h hf ho cI cB G ec fd fm oa) s.heap := hP
  have hD : va_D A (gX h hf ho cI cB G ec fd fm oa) := hD
  refine lv_aload_n hx hb dX1_carve_0 rfl (lv_at hl 0 rfl) ?_
  refine lv_iload_n hx hb dX1_carve_1 rfl (lv_at hl 1 rfl) ?_
  refine lv_iload_n hx hb dX1_carve_2 rfl (lv_at hl 3 rfl) ?_
  refine gw_cS (As := [.int (nI g), .int (nI b)]) (rest := []) (ci := 0) (q0 := 0) ⟨hx, hb, hml, hown, hts⟩ (mX1_freeOrderAround l D h hf ho cI cB G ec fd fm oa g b hg hb0) (cwV 2 hts (lw_V q72 q74 qs5 q20 q75) rfl rfl rfl (by decide +kernel) ⟨Nat.le_of_ble_eq_true rfl, Nat.le_of_ble_eq_true rfl⟩) hK hP rfl rfl rfl hl.1 rfl (Nat.le_of_ble_eq_true rfl) dX1_carve_3 ⟨Nat.zero_le _, Nat.zero_le _⟩ (fun r h1 => ?_)
  obtain ⟨j, hj, rfl, hfo⟩ : ∃ j, j < 6 ∧ r = nI j ∧ FOA fm g b j := by
    rcases h1 with h1 | ⟨-, h1⟩
    · exact h1
    · have e := h1 J0 hJ0
      rw [hF.1] at e
      cases e
  have e := FOA_one hfo hF
  subst e
  refine lv_istore (lv' := [(4, .int (nI j)), (0, .ref h), (1, .int (nI g)), (2, .int (nI o)), (3, .int (nI b))]) hx hb dX1_carve_6 hl (by decide) rfl (fun ls hl => ?_)
  refine lv_aload_n hx hb dX1_carve_8 rfl (lv_at hl 1 rfl) ?_
  refine va_get (D := D) (ci := 0) (v := .ref hf) (C := RX1) (T := TX1) (N := 5) hx hb hts in_X1 hown hK hP 0 rfl rfl 1 (by decide) (hts _ q31) (fun _ h9 => h9) rfl dX1_carve_9 ?_
  refine lv_bipush (v := (nI 6)) hx hb dX1_carve_12 (by decide) ?_
  refine lv_iload_n hx hb dX1_carve_14 rfl (lv_at hl 2 rfl) ?_
  refine gx_imul (n := 6 * g) hx hb dX1_carve_15 rfl ?_
  refine lv_iload hx hb dX1_carve_16 (lv_at hl 0 rfl) ?_
  refine gx_iadd (n := 6 * g + j) hx hb dX1_carve_18 rfl ?_
  refine lv_dup2_11 hx hb dX1_carve_19 rfl rfl ?_
  refine gx_iald hx hb hK hP 1 0 rfl rfl (by omega) (by decide) dX1_carve_20 ?_
  refine lv_iconst (v := (nI 1)) hx hb dX1_carve_21 (by decide) ?_
  refine lv_iload_n hx hb dX1_carve_22 rfl (lv_at hl 4 rfl) ?_
  refine lv_iload hx hb dX1_carve_23 (lv_at hl 0 rfl) ?_
  refine gx_ishr (n := b / 2 ^ j) hx hb dX1_carve_25 (by omega) (by omega) rfl ?_
  refine gx_ishl (n := 2 ^ (b / 2 ^ j)) hx hb dX1_carve_26 (gp_div hb0) (Nat.one_mul _) (gp_lt (gp_div hb0)) ?_
  refine lv_iconst (v := (-1)) hx hb dX1_carve_27 (by decide) ?_
  refine lv_ixor hx hb dX1_carve_28 ?_
  refine lv_iand hx hb dX1_carve_29 ?_
  refine gx_iast hx hb hK hP hD hS 1 0 rfl rfl (by omega) (by decide) dX1_carve_30 (fun H locs hP hD hS => ?_)
  have hP : va_P D vwCl (gX h hf ho cI cB G ec fd ((upd fm (6 * g + j) (((fm (6 * g + j)) &&& ((nI (2 ^ (b / 2 ^ j))) ^^^ (-1)))))) oa) H := hP
  have hD : va_D A (gX h hf ho cI cB G ec fd ((upd fm (6 * g + j) (((fm (6 * g + j)) &&& ((nI (2 ^ (b / 2 ^ j))) ^^^ (-1)))))) oa) := hD
  refine gx_loopM (σ := Nat × (Nat → Int32)) (fun x H locs ls => (x.1 ≤ j ∧ (o ≤ x.1 ∨ x.1 = j) ∧ CV fm x.2 g x.1 b j) ∧ (va_P D vwCl (gX h hf ho cI cB G ec fd x.2 oa) H ∧ va_D A (gX h hf ho cI cB G ec fd x.2 oa) ∧ va_S A s.heap H locs) ∧ ∃ z, lv_has ls 6 ([(4, .int (nI x.1)), (0, .ref h), (1, .int (nI g)), (2, .int (nI o)), (3, .int (nI b))] ++ z)) (fun x => x.1) (j, _) ⟨⟨Nat.le_refl _, Or.inr rfl, CV_0 hg hb0 hj⟩, ⟨hP, hD, hS⟩, [], hl⟩ ?_
  rintro ⟨J, fm1⟩ H locs ls ⟨⟨hJ, hoJ, hcv⟩, ⟨hP, hD, hS⟩, z, hl⟩ ih
  have hl : lv_has ls 6 [(4, .int (nI J)), (0, .ref h), (1, .int (nI g)), (2, .int (nI o)), (3, .int (nI b))] := gl_left hl
  have hJ : J ≤ j := hJ
  have hcv : CV fm fm1 g J b j := hcv
  have hoJ : o ≤ J ∨ J = j := hoJ
  have hP : va_P D vwCl (gX h hf ho cI cB G ec fd fm1 oa) H := hP
  have hD : va_D A (gX h hf ho cI cB G ec fd fm1 oa) := hD
  refine lv_iload hx hb dX1_carve_31 (lv_at hl 0 rfl) ?_
  refine lv_iload_n hx hb dX1_carve_33 rfl (lv_at hl 3 rfl) ?_
  refine gx_icmp_le (tgt := 70) hx hb dX1_carve_34 (by decide) (by omega) (by omega) (fun c1 => ?_) (fun c1 => ?_)
  · exact W.vret hx hb hr (fun t9 ht9 hW9 => ⟨⟨(ec, fd, fm1, oa), rfl, ⟨fm1, CV_x c1 hoJ hcv, rfl⟩, by rw [ht9]; exact hP, va_K.moved hW9.alike hK, hD⟩, hS.F ht9⟩) hS.2.2 dX1_carve_70
  · obtain ⟨K, rfl⟩ : ∃ K, J = K + 1 := ⟨J - 1, by omega⟩
    refine lv_iinc (v := (nI K)) (lv' := [(4, .int (nI K)), (0, .ref h), (1, .int (nI g)), (2, .int (nI o)), (3, .int (nI b))]) hx hb dX1_carve_37 hl (k := 0) rfl (gn_dec K) (by decide) rfl (fun ls hl => ?_)
    refine lv_iload_n hx hb dX1_carve_40 rfl (lv_at hl 4 rfl) ?_
    refine lv_iload hx hb dX1_carve_41 (lv_at hl 0 rfl) ?_
    refine gx_ishr (n := b / 2 ^ K) hx hb dX1_carve_43 (by omega) (by omega) rfl ?_
    refine lv_iconst (v := (nI 1)) hx hb dX1_carve_44 (by decide) ?_
    refine gx_ixor (n := (b / 2 ^ K) ^^^ 1) hx hb dX1_carve_45 rfl ?_
    refine lv_istore (lv' := [(5, .int (nI ((b / 2 ^ K) ^^^ 1))), (4, .int (nI K)), (0, .ref h), (1, .int (nI g)), (2, .int (nI o)), (3, .int (nI b))]) hx hb dX1_carve_46 hl (by decide) rfl (fun ls hl => ?_)
    refine lv_aload_n hx hb dX1_carve_48 rfl (lv_at hl 2 rfl) ?_
    refine va_get (D := D) (ci := 0) (v := .ref hf) (C := RX1) (T := TX1) (N := 5) hx hb hts in_X1 hown hK hP 0 rfl rfl 1 (by decide) (hts _ q31) (fun _ h9 => h9) rfl dX1_carve_49 ?_
    refine lv_bipush (v := (nI 6)) hx hb dX1_carve_52 (by decide) ?_
    refine lv_iload_n hx hb dX1_carve_54 rfl (lv_at hl 3 rfl) ?_
    refine gx_imul (n := 6 * g) hx hb dX1_carve_55 rfl ?_
    refine lv_iload hx hb dX1_carve_56 (lv_at hl 1 rfl) ?_
    refine gx_iadd (n := 6 * g + K) hx hb dX1_carve_58 rfl ?_
    refine lv_dup2_11 hx hb dX1_carve_59 rfl rfl ?_
    refine gx_iald hx hb hK hP 1 0 rfl rfl (by omega) (by decide) dX1_carve_60 ?_
    refine lv_iconst (v := (nI 1)) hx hb dX1_carve_61 (by decide) ?_
    refine lv_iload hx hb dX1_carve_62 (lv_at hl 0 rfl) ?_
    refine gx_ishl (n := 2 ^ (b / 2 ^ K ^^^ 1)) hx hb dX1_carve_64 (gp_xor (gp_div hb0)) (Nat.one_mul _) (gp_lt (gp_xor (gp_div hb0))) ?_
    refine lv_ior hx hb dX1_carve_65 ?_
    refine gx_iast hx hb hK hP hD hS 1 0 rfl rfl (by omega) (by decide) dX1_carve_66 (fun H locs hP hD hS => ?_)
    have hP : va_P D vwCl (gX h hf ho cI cB G ec fd ((upd fm1 (6 * g + K) (((fm1 (6 * g + K)) ||| (nI (2 ^ (b / 2 ^ K ^^^ 1))))))) oa) H := hP
    have hD : va_D A (gX h hf ho cI cB G ec fd ((upd fm1 (6 * g + K) (((fm1 (6 * g + K)) ||| (nI (2 ^ (b / 2 ^ K ^^^ 1))))))) oa) := hD
    refine lv_goto (tgt := 31) hx hb dX1_carve_67 (by decide) ?_
    exact ih (K, _) _ _ ls ⟨⟨by show K ≤ j; omega, by left; show o ≤ K; omega, CV_s hg hb0 (by omega) hj hcv⟩, ⟨hP, hD, hS⟩, [(5, _)], lv_sub hl [1, 2, 3, 4, 5, 0] rfl⟩ (Nat.lt_succ_self K)
set_option maxHeartbeats 4000000 in
set_option maxRecDepth 100000 in
theorem mX1_giveBack (l : Launch) (D : va_G) (h hf ho : Nat) (cI cB : ClassId) (G : Nat) (ec fd : Int32) (fm oa : Nat → Int32) (sz : Nat) (g o b : Nat) (hg : g < 4) (ho6 : o < 6) (hb0 : b < 32) : Met l yX1_giveBack (ws_ yX1_giveBack cX1_giveBack 6 none) ({ frames := 0, cells := 0, slots := 0, locals := 0 } : Room) (gw_Pc D (gX h hf ho cI cB G ec fd fm oa) (tX cI cB) sz [.ref h, .int (nI g), .int (nI o), .int (nI b)]) (gw_V D (tX cI cB) (fun u : (Int32 × Int32 × (Nat → Int32) × (Nat → Int32)) => gX h hf ho cI cB G u.1 u.2.1 u.2.2.1 u.2.2.2) (fun (u : (Int32 × Int32 × (Nat → Int32) × (Nat → Int32))) => ∃ J fm', GJ fm g o b J ∧ GB fm fm' g o b J ∧ u = (ec, fd, fm', oa)) (va_A (gX h hf ho cI cB G ec fd fm oa) sz)) 0 0 (va_A (gX h hf ho cI cB G ec fd fm oa) sz) := by
  refine gw_ofQ (gw_V D (tX cI cB) (fun u : (Int32 × Int32 × (Nat → Int32) × (Nat → Int32)) => gX h hf ho cI cB G u.1 u.2.1 u.2.2.1 u.2.2.2) (fun (u : (Int32 × Int32 × (Nat → Int32) × (Nat → Int32))) => ∃ J fm', GJ fm g o b J ∧ GB fm fm' g o b J ∧ u = (ec, fd, fm', oa))) (by decide) (Nat.le_of_ble_eq_true rfl) ?_
  intro p e s m below meth c ls A hx hb hr hml hown hts hlocks _ hP hK hD hS hA hl
  have hl : lv_has ls 6 [(0, .ref h), (1, .int (nI g)), (2, .int (nI o)), (3, .int (nI b))] := hl
  have hown : s.vm.findClass RX1 = some m.cls := hown
  have hP : va_P D vwCl (gX h hf ho cI cB G ec fd fm oa) s.heap := hP
  have hD : va_D A (gX h hf ho cI cB G ec fd fm oa) := hD
  refine lv_iload_n hx hb dX1_giveBack_0 rfl (lv_at hl 2 rfl) ?_
  refine lv_istore (lv' := [(4, .int (nI o)), (0, .ref h), (1, .int (nI g)), (2, .int (nI o)), (3, .int (nI b))]) hx hb dX1_giveBack_1 hl (by decide) rfl (fun ls hl => ?_)
  refine lv_iload_n hx hb dX1_giveBack_3 rfl (lv_at hl 4 rfl) ?_
  refine lv_iload_n hx hb dX1_giveBack_4 rfl (lv_at hl 3 rfl) ?_
  refine gx_ishr (n := b / 2 ^ o) hx hb dX1_giveBack_5 (by omega) (by omega) rfl ?_
  refine lv_istore (lv' := [(5, .int (nI (b / 2 ^ o))), (4, .int (nI o)), (0, .ref h), (1, .int (nI g)), (2, .int (nI o)), (3, .int (nI b))]) hx hb dX1_giveBack_6 hl (by decide) rfl (fun ls hl => ?_)
  refine gx_loopM (σ := Nat × (Nat → Int32)) (fun x H locs ls => (o ≤ x.1 ∧ x.1 < 6 ∧ (∀ j, o ≤ j → j < x.1 → Bt fm g j ((b / 2 ^ j) ^^^ 1) = true) ∧ GI fm x.2 g o b x.1) ∧ (va_P D vwCl (gX h hf ho cI cB G ec fd x.2 oa) H ∧ va_D A (gX h hf ho cI cB G ec fd x.2 oa) ∧ va_S A s.heap H locs) ∧ lv_has ls 6 [(5, .int (nI (b / 2 ^ x.1))), (4, .int (nI x.1)), (0, .ref h), (1, .int (nI g)), (2, .int (nI o)), (3, .int (nI b))]) (fun x => 5 - x.1) (o, fm) ⟨⟨Nat.le_refl _, ho6, fun j h1 h2 => absurd h1 (Nat.not_le.mpr h2), GI_0⟩, ⟨hP, hD, hS⟩, hl⟩ ?_
  rintro ⟨J, fm1⟩ H locs ls ⟨⟨hoJ, hJ, hup, hgi⟩, ⟨hP, hD, hS⟩, hl⟩ ih
  have hl : lv_has ls 6 [(5, .int (nI (b / 2 ^ J))), (4, .int (nI J)), (0, .ref h), (1, .int (nI g)), (2, .int (nI o)), (3, .int (nI b))] := hl
  have hoJ : o ≤ J := hoJ
  have hJ : J < 6 := hJ
  have hup : ∀ j, o ≤ j → j < J → Bt fm g j ((b / 2 ^ j) ^^^ 1) = true := hup
  have hgi : GI fm fm1 g o b J := hgi
  have hx1 := gp_xor (gp_div (j := J) hb0)
  have hP : va_P D vwCl (gX h hf ho cI cB G ec fd fm1 oa) H := hP
  have hD : va_D A (gX h hf ho cI cB G ec fd fm1 oa) := hD
  refine lv_iload hx hb dX1_giveBack_8 (lv_at hl 1 rfl) ?_
  refine lv_iconst (v := (nI 5)) hx hb dX1_giveBack_10 (by decide) ?_
  refine gx_icmp_ge (tgt := 71) hx hb dX1_giveBack_11 (by decide) (by omega) (by omega) (fun c1 => ?_) (fun c1 => ?_)
  · refine lv_aload_n hx hb dX1_giveBack_71 rfl (lv_at hl 2 rfl) ?_
    refine va_get (D := D) (ci := 0) (v := .ref hf) (C := RX1) (T := TX1) (N := 5) hx hb hts in_X1 hown hK hP 0 rfl rfl 1 (by decide) (hts _ q31) (fun _ h9 => h9) rfl dX1_giveBack_72 ?_
    refine lv_bipush (v := (nI 6)) hx hb dX1_giveBack_75 (by decide) ?_
    refine lv_iload_n hx hb dX1_giveBack_77 rfl (lv_at hl 3 rfl) ?_
    refine gx_imul (n := 6 * g) hx hb dX1_giveBack_78 rfl ?_
    refine lv_iload hx hb dX1_giveBack_79 (lv_at hl 1 rfl) ?_
    refine gx_iadd (n := 6 * g + J) hx hb dX1_giveBack_81 rfl ?_
    refine lv_dup2_11 hx hb dX1_giveBack_82 rfl rfl ?_
    refine gx_iald hx hb hK hP 1 0 rfl rfl (by omega) (by decide) dX1_giveBack_83 ?_
    refine lv_iconst (v := (nI 1)) hx hb dX1_giveBack_84 (by decide) ?_
    refine lv_iload hx hb dX1_giveBack_85 (lv_at hl 0 rfl) ?_
    refine gx_ishl (n := 2 ^ (b / 2 ^ J)) hx hb dX1_giveBack_87 (gp_div hb0) (Nat.one_mul _) (gp_lt (gp_div hb0)) ?_
    refine lv_ior hx hb dX1_giveBack_88 ?_
    refine gx_iast hx hb hK hP hD hS 1 0 rfl rfl (by omega) (by decide) dX1_giveBack_89 (fun H locs hP hD hS => ?_)
    have hP : va_P D vwCl (gX h hf ho cI cB G ec fd ((upd fm1 (6 * g + J) (((fm1 (6 * g + J)) ||| (nI (2 ^ (b / 2 ^ J))))))) oa) H := hP
    have hD : va_D A (gX h hf ho cI cB G ec fd ((upd fm1 (6 * g + J) (((fm1 (6 * g + J)) ||| (nI (2 ^ (b / 2 ^ J))))))) oa) := hD
    exact W.vret hx hb hr (fun t9 ht9 hW9 => ⟨⟨(ec, fd, (upd fm1 (6 * g + J) (((fm1 (6 * g + J)) ||| (nI (2 ^ (b / 2 ^ J)))))), oa), rfl, ⟨J, _, ⟨hoJ, hJ, hup, Or.inl (by omega)⟩, GB_of hg hb0 hJ hgi, rfl⟩, by rw [ht9]; exact hP, va_K.moved hW9.alike hK, hD⟩, hS.F ht9⟩) hS.2.2 dX1_giveBack_90
  · refine lv_aload_n hx hb dX1_giveBack_14 rfl (lv_at hl 2 rfl) ?_
    refine va_get (D := D) (ci := 0) (v := .ref hf) (C := RX1) (T := TX1) (N := 5) hx hb hts in_X1 hown hK hP 0 rfl rfl 1 (by decide) (hts _ q31) (fun _ h9 => h9) rfl dX1_giveBack_15 ?_
    refine lv_bipush (v := (nI 6)) hx hb dX1_giveBack_18 (by decide) ?_
    refine lv_iload_n hx hb dX1_giveBack_20 rfl (lv_at hl 3 rfl) ?_
    refine gx_imul (n := 6 * g) hx hb dX1_giveBack_21 rfl ?_
    refine lv_iload hx hb dX1_giveBack_22 (lv_at hl 1 rfl) ?_
    refine gx_iadd (n := 6 * g + J) hx hb dX1_giveBack_24 rfl ?_
    refine gx_iald hx hb hK hP 1 0 rfl rfl (by omega) (by decide) dX1_giveBack_25 ?_
    refine lv_iload hx hb dX1_giveBack_26 (lv_at hl 0 rfl) ?_
    refine lv_iconst (v := (nI 1)) hx hb dX1_giveBack_28 (by decide) ?_
    refine gx_ixor (n := (b / 2 ^ J) ^^^ 1) hx hb dX1_giveBack_29 rfl ?_
    refine gx_iushr hx hb dX1_giveBack_30 ?_
    refine lv_iconst (v := (nI 1)) hx hb dX1_giveBack_31 (by decide) ?_
    refine gx_bit hx hb dX1_giveBack_32 hx1 ?_
    refine gx_if_eqB (tgt := 71) hx hb dX1_giveBack_33 (by decide)  (fun c2 => ?_) (fun c2 => ?_)
    · refine lv_aload_n hx hb dX1_giveBack_71 rfl (lv_at hl 2 rfl) ?_
      refine va_get (D := D) (ci := 0) (v := .ref hf) (C := RX1) (T := TX1) (N := 5) hx hb hts in_X1 hown hK hP 0 rfl rfl 1 (by decide) (hts _ q31) (fun _ h9 => h9) rfl dX1_giveBack_72 ?_
      refine lv_bipush (v := (nI 6)) hx hb dX1_giveBack_75 (by decide) ?_
      refine lv_iload_n hx hb dX1_giveBack_77 rfl (lv_at hl 3 rfl) ?_
      refine gx_imul (n := 6 * g) hx hb dX1_giveBack_78 rfl ?_
      refine lv_iload hx hb dX1_giveBack_79 (lv_at hl 1 rfl) ?_
      refine gx_iadd (n := 6 * g + J) hx hb dX1_giveBack_81 rfl ?_
      refine lv_dup2_11 hx hb dX1_giveBack_82 rfl rfl ?_
      refine gx_iald hx hb hK hP 1 0 rfl rfl (by omega) (by decide) dX1_giveBack_83 ?_
      refine lv_iconst (v := (nI 1)) hx hb dX1_giveBack_84 (by decide) ?_
      refine lv_iload hx hb dX1_giveBack_85 (lv_at hl 0 rfl) ?_
      refine gx_ishl (n := 2 ^ (b / 2 ^ J)) hx hb dX1_giveBack_87 (gp_div hb0) (Nat.one_mul _) (gp_lt (gp_div hb0)) ?_
      refine lv_ior hx hb dX1_giveBack_88 ?_
      refine gx_iast hx hb hK hP hD hS 1 0 rfl rfl (by omega) (by decide) dX1_giveBack_89 (fun H locs hP hD hS => ?_)
      have hP : va_P D vwCl (gX h hf ho cI cB G ec fd ((upd fm1 (6 * g + J) (((fm1 (6 * g + J)) ||| (nI (2 ^ (b / 2 ^ J))))))) oa) H := hP
      have hD : va_D A (gX h hf ho cI cB G ec fd ((upd fm1 (6 * g + J) (((fm1 (6 * g + J)) ||| (nI (2 ^ (b / 2 ^ J))))))) oa) := hD
      exact W.vret hx hb hr (fun t9 ht9 hW9 => ⟨⟨(ec, fd, (upd fm1 (6 * g + J) (((fm1 (6 * g + J)) ||| (nI (2 ^ (b / 2 ^ J)))))), oa), rfl, ⟨J, _, ⟨hoJ, hJ, hup, Or.inr ((GI_at hg hJ hx1 hgi).symm.trans c2)⟩, GB_of hg hb0 hJ hgi, rfl⟩, by rw [ht9]; exact hP, va_K.moved hW9.alike hK, hD⟩, hS.F ht9⟩) hS.2.2 dX1_giveBack_90
    · refine lv_aload_n hx hb dX1_giveBack_36 rfl (lv_at hl 2 rfl) ?_
      refine va_get (D := D) (ci := 0) (v := .ref hf) (C := RX1) (T := TX1) (N := 5) hx hb hts in_X1 hown hK hP 0 rfl rfl 1 (by decide) (hts _ q31) (fun _ h9 => h9) rfl dX1_giveBack_37 ?_
      refine lv_bipush (v := (nI 6)) hx hb dX1_giveBack_40 (by decide) ?_
      refine lv_iload_n hx hb dX1_giveBack_42 rfl (lv_at hl 3 rfl) ?_
      refine gx_imul (n := 6 * g) hx hb dX1_giveBack_43 rfl ?_
      refine lv_iload hx hb dX1_giveBack_44 (lv_at hl 1 rfl) ?_
      refine gx_iadd (n := 6 * g + J) hx hb dX1_giveBack_46 rfl ?_
      refine lv_dup2_11 hx hb dX1_giveBack_47 rfl rfl ?_
      refine gx_iald hx hb hK hP 1 0 rfl rfl (by omega) (by decide) dX1_giveBack_48 ?_
      refine lv_iconst (v := (nI 1)) hx hb dX1_giveBack_49 (by decide) ?_
      refine lv_iload hx hb dX1_giveBack_50 (lv_at hl 0 rfl) ?_
      refine lv_iconst (v := (nI 1)) hx hb dX1_giveBack_52 (by decide) ?_
      refine gx_ixor (n := (b / 2 ^ J) ^^^ 1) hx hb dX1_giveBack_53 rfl ?_
      refine gx_ishl (n := 2 ^ (b / 2 ^ J ^^^ 1)) hx hb dX1_giveBack_54 hx1 (Nat.one_mul _) (gp_lt hx1) ?_
      refine lv_iconst (v := (-1)) hx hb dX1_giveBack_55 (by decide) ?_
      refine lv_ixor hx hb dX1_giveBack_56 ?_
      refine lv_iand hx hb dX1_giveBack_57 ?_
      refine gx_iast hx hb hK hP hD hS 1 0 rfl rfl (by omega) (by decide) dX1_giveBack_58 (fun H locs hP hD hS => ?_)
      have hP : va_P D vwCl (gX h hf ho cI cB G ec fd ((upd fm1 (6 * g + J) (((fm1 (6 * g + J)) &&& ((nI (2 ^ (b / 2 ^ J ^^^ 1))) ^^^ (-1)))))) oa) H := hP
      have hD : va_D A (gX h hf ho cI cB G ec fd ((upd fm1 (6 * g + J) (((fm1 (6 * g + J)) &&& ((nI (2 ^ (b / 2 ^ J ^^^ 1))) ^^^ (-1)))))) oa) := hD
      refine lv_iload hx hb dX1_giveBack_59 (lv_at hl 0 rfl) ?_
      refine lv_iconst (v := (nI 1)) hx hb dX1_giveBack_61 (by decide) ?_
      refine gx_ishr (n := b / 2 ^ (J + 1)) hx hb dX1_giveBack_62 (by have := gp_div (j := J) hb0; omega) (by decide) (by rw [Nat.pow_one, Nat.div_div_eq_div_mul, Nat.pow_succ]) ?_
      refine lv_istore (lv' := [(5, .int (nI (b / 2 ^ (J + 1)))), (4, .int (nI J)), (0, .ref h), (1, .int (nI g)), (2, .int (nI o)), (3, .int (nI b))]) hx hb dX1_giveBack_63 hl (by decide) rfl (fun ls hl => ?_)
      refine lv_iinc (v := (nI (J + 1))) (lv' := [(4, .int (nI (J + 1))), (5, .int (nI (b / 2 ^ (J + 1)))), (0, .ref h), (1, .int (nI g)), (2, .int (nI o)), (3, .int (nI b))]) hx hb dX1_giveBack_65 hl (k := 1) rfl (gn_inc J) (by decide) rfl (fun ls hl => ?_)
      refine lv_goto (tgt := 8) hx hb dX1_giveBack_68 (by decide) ?_
      exact ih (J + 1, _) _ _ ls ⟨⟨by show o ≤ J + 1; omega, by show J + 1 < 6; omega, fun j h1 h2 => by rcases Nat.lt_or_ge j J with z | z; exact hup j h1 z; rw [show j = J from Nat.le_antisymm (Nat.le_of_lt_succ h2) z]; exact (GI_at hg hJ hx1 hgi).symm.trans c2, GI_s hg hb0 hoJ c1 hgi⟩, ⟨hP, hD, hS⟩, lv_sub hl [1, 0, 2, 3, 4, 5] rfl⟩ (by show 5 - (J + 1) < 5 - J; omega)
set_option maxHeartbeats 4000000 in
set_option maxRecDepth 100000 in
theorem mX1_search (l : Launch) (D : va_G) (h hf ho : Nat) (cI cB : ClassId) (G : Nat) (ec fd : Int32) (fm oa : Nat → Int32) (sz : Nat) (g o b : Nat) (hg : g < 4) (ho6 : o < 6) (hb0 : b < 32) : Met l yX1_search (ws_ yX1_search cX1_search 11 (some .boolean)) ({ frames := 0, cells := 0, slots := 0, locals := 0 } : Room) (gw_Pc D (gX h hf ho cI cB G ec fd fm oa) (tX cI cB) sz [.ref h, .int (nI g), .int (nI o), .int (nI b)]) (gw_Q D (tX cI cB) (fun u : (Int32 × Int32 × (Nat → Int32) × (Nat → Int32)) => gX h hf ho cI cB G u.1 u.2.1 u.2.2.1 u.2.2.2) (fun (r : Int32) (u : (Int32 × Int32 × (Nat → Int32) × (Nat → Int32))) => ∃ f, u = (ec, nI f, fm, oa) ∧ SRF fm g o b f ∧ ((r = 1 ∧ f < 32) ∨ (r = 0 ∧ ¬ f < 32))) (va_A (gX h hf ho cI cB G ec fd fm oa) sz)) 0 0 (va_A (gX h hf ho cI cB G ec fd fm oa) sz) := by
  refine gw_ofQ (gw_Q D (tX cI cB) (fun u : (Int32 × Int32 × (Nat → Int32) × (Nat → Int32)) => gX h hf ho cI cB G u.1 u.2.1 u.2.2.1 u.2.2.2) (fun (r : Int32) (u : (Int32 × Int32 × (Nat → Int32) × (Nat → Int32))) => ∃ f, u = (ec, nI f, fm, oa) ∧ SRF fm g o b f ∧ ((r = 1 ∧ f < 32) ∨ (r = 0 ∧ ¬ f < 32)))) (by decide) (Nat.le_of_ble_eq_true rfl) ?_
  intro p e s m below meth c ls A hx hb hr hml hown hts hlocks _ hP hK hD hS hA hl
  have hl : lv_has ls 11 [(0, .ref h), (1, .int (nI g)), (2, .int (nI o)), (3, .int (nI b))] := hl
  have hown : s.vm.findClass RX1 = some m.cls := hown
  have hP : va_P D vwCl (gX h hf ho cI cB G ec fd fm oa) s.heap := hP
  have hD : va_D A (gX h hf ho cI cB G ec fd fm oa) := hD
  have h2o := gp_32 ho6
  have h1o : 0 < 2 ^ o := Nat.two_pow_pos o
  have hfr : gfr o b < 64 := by
    have h1 : gfr o b ≤ b + 2 ^ o - 1 := Nat.div_mul_le_self _ _
    omega
  refine lv_iconst (v := (nI 1)) hx hb dX1_search_0 (by decide) ?_
  refine lv_iload_n hx hb dX1_search_1 rfl (lv_at hl 2 rfl) ?_
  refine gx_ishl (n := 2 ^ o) hx hb dX1_search_2 (by omega) (Nat.one_mul _) (gp_lt (by omega)) ?_
  refine lv_istore (lv' := [(4, .int (nI (2 ^ o))), (0, .ref h), (1, .int (nI g)), (2, .int (nI o)), (3, .int (nI b))]) hx hb dX1_search_3 hl (by decide) rfl (fun ls hl => ?_)
  refine lv_iload_n hx hb dX1_search_5 rfl (lv_at hl 4 rfl) ?_
  refine lv_iload hx hb dX1_search_6 (lv_at hl 0 rfl) ?_
  refine gx_iadd (n := b + 2 ^ o) hx hb dX1_search_8 rfl ?_
  refine lv_iconst (v := (nI 1)) hx hb dX1_search_9 (by decide) ?_
  refine gx_isub (n := (b + 2 ^ o) - 1) hx hb dX1_search_10 (by omega) ?_
  refine lv_iload_n hx hb dX1_search_11 rfl (lv_at hl 3 rfl) ?_
  refine gx_ishr (n := ((b + 2 ^ o) - 1) / 2 ^ o) hx hb dX1_search_12 (by omega) (by omega) rfl ?_
  refine lv_iload_n hx hb dX1_search_13 rfl (lv_at hl 3 rfl) ?_
  refine gx_ishl (n := gfr o b) hx hb dX1_search_14 (by omega) rfl (Nat.lt_trans hfr (by decide)) ?_
  refine lv_istore (lv' := [(5, .int (nI (gfr o b))), (4, .int (nI (2 ^ o))), (0, .ref h), (1, .int (nI g)), (2, .int (nI o)), (3, .int (nI b))]) hx hb dX1_search_15 hl (by decide) rfl (fun ls hl => ?_)
  refine lv_aload_n hx hb dX1_search_17 rfl (lv_at hl 2 rfl) ?_
  refine lv_bipush (v := (nI 32)) hx hb dX1_search_18 (by decide) ?_
  refine va_put (D := D) (ci := 0) (v := .int (nI 32)) (ty := .int) (C := RX1) (T := TX1) (N := 5) hx hb hts in_X1 tyX1 tyX1_ok nmX1 hown hK hP hD hS 0 rfl rfl 4 (by decide) (hts _ q34) (fun _ h9 => h9) rfl (by decide +kernel) rfl rfl (Nat.le_of_ble_eq_true rfl) dX1_search_20 (fun H locs hP hD hS => ?_)
  have hP : va_P D vwCl (gX h hf ho cI cB G ec (nI 32) fm oa) H := hP
  have hD : va_D A (gX h hf ho cI cB G ec (nI 32) fm oa) := hD
  refine lv_iload_n hx hb dX1_search_23 rfl (lv_at hl 4 rfl) ?_
  refine lv_istore (lv' := [(6, .int (nI o)), (5, .int (nI (gfr o b))), (4, .int (nI (2 ^ o))), (0, .ref h), (1, .int (nI g)), (2, .int (nI o)), (3, .int (nI b))]) hx hb dX1_search_24 hl (by decide) rfl (fun ls hl => ?_)
  refine gx_loopM (σ := Nat × Nat) (fun x H locs ls => (o ≤ x.1 ∧ x.1 ≤ 6 ∧ SRI fm g o (gfr o b) x.2 (fun a _ => a < x.1)) ∧ (va_P D vwCl (gX h hf ho cI cB G ec (nI x.2) fm oa) H ∧ va_D A (gX h hf ho cI cB G ec (nI x.2) fm oa) ∧ va_S A s.heap H locs) ∧ ∃ z, lv_has ls 11 ([(6, .int (nI x.1)), (5, .int (nI (gfr o b))), (4, .int (nI (2 ^ o))), (0, .ref h), (1, .int (nI g)), (2, .int (nI o)), (3, .int (nI b))] ++ z)) (fun x => 6 - x.1) (o, 32) ⟨⟨Nat.le_refl _, by show o ≤ 6; omega, SRI_0⟩, ⟨hP, hD, hS⟩, [], hl⟩ ?_
  rintro ⟨j, f⟩ H locs ls ⟨⟨hoj, hj, hsr⟩, ⟨hP, hD, hS⟩, z, hl⟩ ih
  have hl : lv_has ls 11 [(6, .int (nI j)), (5, .int (nI (gfr o b))), (4, .int (nI (2 ^ o))), (0, .ref h), (1, .int (nI g)), (2, .int (nI o)), (3, .int (nI b))] := gl_left hl
  have hoj : o ≤ j := hoj
  have hj : j ≤ 6 := hj
  have hsr : SRI fm g o (gfr o b) f (fun a _ => a < j) := hsr
  have hP : va_P D vwCl (gX h hf ho cI cB G ec (nI f) fm oa) H := hP
  have hD : va_D A (gX h hf ho cI cB G ec (nI f) fm oa) := hD
  refine lv_iload hx hb dX1_search_26 (lv_at hl 0 rfl) ?_
  refine lv_bipush (v := (nI 6)) hx hb dX1_search_28 (by decide) ?_
  refine gx_icmp_ge (tgt := 138) hx hb dX1_search_30 (by decide) (by omega) (by omega) (fun c1 => ?_) (fun c1 => ?_)
  · have hf32 : f ≤ 32 := hsr.1
    refine lv_aload_n hx hb dX1_search_138 rfl (lv_at hl 3 rfl) ?_
    refine va_get (D := D) (ci := 0) (v := .int (nI f)) (C := RX1) (T := TX1) (N := 5) hx hb hts in_X1 hown hK hP 0 rfl rfl 4 (by decide) (hts _ q34) (fun _ h9 => h9) rfl dX1_search_139 ?_
    refine lv_bipush (v := (nI 32)) hx hb dX1_search_142 (by decide) ?_
    refine gx_icmp_ge (tgt := 151) hx hb dX1_search_144 (by decide) (by omega) (by omega) (fun c2 => ?_) (fun c2 => ?_)
    · refine lv_iconst (v := (nI 0)) hx hb dX1_search_151 (by decide) ?_
      exact W.zret (v := (nI 0)) hx hb hr rfl (fun t9 ht9 hW9 => ⟨⟨_, (ec, nI f, fm, oa), rfl, ⟨f, rfl, SRI_end c1 hsr, Or.inr ⟨rfl, by omega⟩⟩, by rw [ht9]; exact hP, va_K.moved hW9.alike hK, hD⟩, hS.F ht9⟩) hS.2.2 dX1_search_152
    · refine lv_iconst (v := (nI 1)) hx hb dX1_search_147 (by decide) ?_
      refine lv_goto (tgt := 152) hx hb dX1_search_148 (by decide) ?_
      exact W.zret (v := (nI 1)) hx hb hr rfl (fun t9 ht9 hW9 => ⟨⟨_, (ec, nI f, fm, oa), rfl, ⟨f, rfl, SRI_end c1 hsr, Or.inl ⟨rfl, c2⟩⟩, by rw [ht9]; exact hP, va_K.moved hW9.alike hK, hD⟩, hS.F ht9⟩) hS.2.2 dX1_search_152
  · have h2j := gp_32 c1
    refine lv_aload_n hx hb dX1_search_33 rfl (lv_at hl 3 rfl) ?_
    refine va_get (D := D) (ci := 0) (v := .ref hf) (C := RX1) (T := TX1) (N := 5) hx hb hts in_X1 hown hK hP 0 rfl rfl 1 (by decide) (hts _ q31) (fun _ h9 => h9) rfl dX1_search_34 ?_
    refine lv_bipush (v := (nI 6)) hx hb dX1_search_37 (by decide) ?_
    refine lv_iload_n hx hb dX1_search_39 rfl (lv_at hl 4 rfl) ?_
    refine gx_imul (n := 6 * g) hx hb dX1_search_40 rfl ?_
    refine lv_iload hx hb dX1_search_41 (lv_at hl 0 rfl) ?_
    refine gx_iadd (n := 6 * g + j) hx hb dX1_search_43 rfl ?_
    refine gx_iald hx hb hK hP 1 0 rfl rfl (by omega) (by decide) dX1_search_44 ?_
    refine lv_istore (lv' := [(7, .int (fm (6 * g + j))), (6, .int (nI j)), (5, .int (nI (gfr o b))), (4, .int (nI (2 ^ o))), (0, .ref h), (1, .int (nI g)), (2, .int (nI o)), (3, .int (nI b))]) hx hb dX1_search_45 hl (by decide) rfl (fun ls hl => ?_)
    refine lv_iconst (v := (nI 0)) hx hb dX1_search_47 (by decide) ?_
    refine lv_istore (lv' := [(8, .int (nI 0)), (7, .int (fm (6 * g + j))), (6, .int (nI j)), (5, .int (nI (gfr o b))), (4, .int (nI (2 ^ o))), (0, .ref h), (1, .int (nI g)), (2, .int (nI o)), (3, .int (nI b))]) hx hb dX1_search_48 hl (by decide) rfl (fun ls hl => ?_)
    refine gx_loopM (σ := Nat × Nat) (fun x H locs ls => (x.1 ≤ 32 ∧ SRI fm g o (gfr o b) x.2 (fun a c => a < j ∨ (a = j ∧ c < x.1))) ∧ (va_P D vwCl (gX h hf ho cI cB G ec (nI x.2) fm oa) H ∧ va_D A (gX h hf ho cI cB G ec (nI x.2) fm oa) ∧ va_S A s.heap H locs) ∧ ∃ z, lv_has ls 11 ([(8, .int (nI x.1)), (7, .int (fm (6 * g + j))), (6, .int (nI j)), (5, .int (nI (gfr o b))), (4, .int (nI (2 ^ o))), (0, .ref h), (1, .int (nI g)), (2, .int (nI o)), (3, .int (nI b))] ++ z)) (fun x => 32 - x.1) (0, f) ⟨⟨Nat.zero_le _, SRI_in hsr⟩, ⟨hP, hD, hS⟩, [], hl⟩ ?_
    rintro ⟨i, f⟩ H locs ls ⟨⟨hi, hsr⟩, ⟨hP, hD, hS⟩, z, hl⟩ ih2
    have hl : lv_has ls 11 [(8, .int (nI i)), (7, .int (fm (6 * g + j))), (6, .int (nI j)), (5, .int (nI (gfr o b))), (4, .int (nI (2 ^ o))), (0, .ref h), (1, .int (nI g)), (2, .int (nI o)), (3, .int (nI b))] := gl_left hl
    have hi : i ≤ 32 := hi
    have hsr : SRI fm g o (gfr o b) f (fun a c => a < j ∨ (a = j ∧ c < i)) := hsr
    have hf32 : f ≤ 32 := hsr.1
    have hP : va_P D vwCl (gX h hf ho cI cB G ec (nI f) fm oa) H := hP
    have hD : va_D A (gX h hf ho cI cB G ec (nI f) fm oa) := hD
    have hm : i * 2 ^ j ≤ 32 * 32 := Nat.mul_le_mul hi h2j
    refine lv_iload hx hb dX1_search_50 (lv_at hl 0 rfl) ?_
    refine lv_iload hx hb dX1_search_52 (lv_at hl 2 rfl) ?_
    refine gx_ishl (n := i * 2 ^ j) hx hb dX1_search_54 (by omega) rfl (by omega) ?_
    refine lv_bipush (v := (nI 32)) hx hb dX1_search_55 (by decide) ?_
    refine gx_icmp_ge (tgt := 132) hx hb dX1_search_57 (by decide) (by omega) (by omega) (fun c2 => ?_) (fun c2 => ?_)
    · refine lv_iinc (v := (nI (j + 1))) (lv' := [(6, .int (nI (j + 1))), (8, .int (nI i)), (7, .int (fm (6 * g + j))), (5, .int (nI (gfr o b))), (4, .int (nI (2 ^ o))), (0, .ref h), (1, .int (nI g)), (2, .int (nI o)), (3, .int (nI b))]) hx hb dX1_search_132 hl (k := 2) rfl (gn_inc j) (by decide) rfl (fun ls hl => ?_)
      refine lv_goto (tgt := 26) hx hb dX1_search_135 (by decide) ?_
      exact ih (j + 1, f) _ _ ls ⟨⟨by show o ≤ j + 1; omega, by show j + 1 ≤ 6; omega, SRI_out c2 hsr⟩, ⟨hP, hD, hS⟩, [(8, _), (7, _)], lv_sub hl [0, 3, 4, 5, 6, 7, 8, 1, 2] rfl⟩ (by show 6 - (j + 1) < 6 - j; omega)
    · have hi2 : i < 32 := by
        rcases Nat.lt_or_ge i 32 with z | z
        · exact z
        · have h3 : 32 * 1 ≤ i * 2 ^ j := Nat.mul_le_mul z (Nat.two_pow_pos j)
          omega
      refine lv_iload hx hb dX1_search_60 (lv_at hl 1 rfl) ?_
      refine lv_iload hx hb dX1_search_62 (lv_at hl 0 rfl) ?_
      refine gx_iushr hx hb dX1_search_64 ?_
      refine lv_iconst (v := (nI 1)) hx hb dX1_search_65 (by decide) ?_
      refine gx_bit hx hb dX1_search_66 hi2 ?_
      refine gx_if_neB (tgt := 73) hx hb dX1_search_67 (by decide)  (fun c3 => ?_) (fun c3 => ?_)
      · have h2i : i * 2 ^ j + 2 ^ j ≤ 2048 := by omega
        refine lv_iload hx hb dX1_search_73 (lv_at hl 0 rfl) ?_
        refine lv_iload hx hb dX1_search_75 (lv_at hl 2 rfl) ?_
        refine gx_ishl (n := i * 2 ^ j) hx hb dX1_search_77 (by omega) rfl (by omega) ?_
        refine lv_istore (lv' := [(9, .int (nI (i * 2 ^ j))), (8, .int (nI i)), (7, .int (fm (6 * g + j))), (6, .int (nI j)), (5, .int (nI (gfr o b))), (4, .int (nI (2 ^ o))), (0, .ref h), (1, .int (nI g)), (2, .int (nI o)), (3, .int (nI b))]) hx hb dX1_search_78 hl (by decide) rfl (fun ls hl => ?_)
        refine lv_iload hx hb dX1_search_80 (lv_at hl 0 rfl) ?_
        refine lv_iload hx hb dX1_search_82 (lv_at hl 4 rfl) ?_
        refine gx_icmp_le (tgt := 92) hx hb dX1_search_84 (by decide) (by omega) (by omega) (fun c4 => ?_) (fun c4 => ?_)
        · refine lv_iload hx hb dX1_search_92 (lv_at hl 4 rfl) ?_
          refine gx_top (y := (nI (max (i * 2 ^ j) (gfr o b)))) (congrArg nI (Nat.max_eq_right c4).symm) ?_
          refine lv_istore (lv' := [(10, .int (nI (max (i * 2 ^ j) (gfr o b)))), (9, .int (nI (i * 2 ^ j))), (8, .int (nI i)), (7, .int (fm (6 * g + j))), (6, .int (nI j)), (5, .int (nI (gfr o b))), (4, .int (nI (2 ^ o))), (0, .ref h), (1, .int (nI g)), (2, .int (nI o)), (3, .int (nI b))]) hx hb dX1_search_94 hl (by decide) rfl (fun ls hl => ?_)
          refine lv_iload hx hb dX1_search_96 (lv_at hl 0 rfl) ?_
          refine lv_iload hx hb dX1_search_98 (lv_at hl 6 rfl) ?_
          refine gx_iadd (n := max (i * 2 ^ j) (gfr o b) + 2 ^ o) hx hb dX1_search_100 rfl ?_
          refine lv_iload hx hb dX1_search_101 (lv_at hl 1 rfl) ?_
          refine lv_iconst (v := (nI 1)) hx hb dX1_search_103 (by decide) ?_
          refine lv_iload hx hb dX1_search_104 (lv_at hl 4 rfl) ?_
          refine gx_ishl (n := 2 ^ j) hx hb dX1_search_106 (by omega) (Nat.one_mul _) (gp_lt (by omega)) ?_
          refine gx_iadd (n := i * 2 ^ j + 2 ^ j) hx hb dX1_search_107 rfl ?_
          refine gx_icmp_gt (tgt := 126) hx hb dX1_search_108 (by decide) (by omega) (by omega) (fun c5 => ?_) (fun c5 => ?_)
          · refine lv_iinc (v := (nI (i + 1))) (lv' := [(8, .int (nI (i + 1))), (10, .int (nI (max (i * 2 ^ j) (gfr o b)))), (9, .int (nI (i * 2 ^ j))), (7, .int (fm (6 * g + j))), (6, .int (nI j)), (5, .int (nI (gfr o b))), (4, .int (nI (2 ^ o))), (0, .ref h), (1, .int (nI g)), (2, .int (nI o)), (3, .int (nI b))]) hx hb dX1_search_126 hl (k := 2) rfl (gn_inc i) (by decide) rfl (fun ls hl => ?_)
            refine lv_goto (tgt := 50) hx hb dX1_search_129 (by decide) ?_
            exact ih2 (i + 1, f) _ _ ls ⟨⟨hi2, SRI_skip (fun hc => absurd hc.2.2.2.2 (by omega)) hsr⟩, ⟨hP, hD, hS⟩, [(10, _), (9, _)], lv_sub hl [0, 3, 4, 5, 6, 7, 8, 9, 10, 1, 2] rfl⟩ (by show 32 - (i + 1) < 32 - i; omega)
          · refine lv_iload hx hb dX1_search_111 (lv_at hl 0 rfl) ?_
            refine lv_aload_n hx hb dX1_search_113 rfl (lv_at hl 7 rfl) ?_
            refine va_get (D := D) (ci := 0) (v := .int (nI f)) (C := RX1) (T := TX1) (N := 5) hx hb hts in_X1 hown hK hP 0 rfl rfl 4 (by decide) (hts _ q34) (fun _ h9 => h9) rfl dX1_search_114 ?_
            refine gx_icmp_ge (tgt := 126) hx hb dX1_search_117 (by decide) (by omega) (by omega) (fun c6 => ?_) (fun c6 => ?_)
            · refine lv_iinc (v := (nI (i + 1))) (lv' := [(8, .int (nI (i + 1))), (10, .int (nI (max (i * 2 ^ j) (gfr o b)))), (9, .int (nI (i * 2 ^ j))), (7, .int (fm (6 * g + j))), (6, .int (nI j)), (5, .int (nI (gfr o b))), (4, .int (nI (2 ^ o))), (0, .ref h), (1, .int (nI g)), (2, .int (nI o)), (3, .int (nI b))]) hx hb dX1_search_126 hl (k := 2) rfl (gn_inc i) (by decide) rfl (fun ls hl => ?_)
              refine lv_goto (tgt := 50) hx hb dX1_search_129 (by decide) ?_
              exact ih2 (i + 1, f) _ _ ls ⟨⟨hi2, SRI_skip (fun _ => c6) hsr⟩, ⟨hP, hD, hS⟩, [(10, _), (9, _)], lv_sub hl [0, 3, 4, 5, 6, 7, 8, 9, 10, 1, 2] rfl⟩ (by show 32 - (i + 1) < 32 - i; omega)
            · refine lv_aload_n hx hb dX1_search_120 rfl (lv_at hl 7 rfl) ?_
              refine lv_iload hx hb dX1_search_121 (lv_at hl 0 rfl) ?_
              refine va_put (D := D) (ci := 0) (v := .int (nI (max (i * 2 ^ j) (gfr o b)))) (ty := .int) (C := RX1) (T := TX1) (N := 5) hx hb hts in_X1 tyX1 tyX1_ok nmX1 hown hK hP hD hS 0 rfl rfl 4 (by decide) (hts _ q34) (fun _ h9 => h9) rfl (by decide +kernel) rfl rfl (Nat.le_of_ble_eq_true rfl) dX1_search_123 (fun H locs hP hD hS => ?_)
              have hP : va_P D vwCl (gX h hf ho cI cB G ec (nI (max (i * 2 ^ j) (gfr o b))) fm oa) H := hP
              have hD : va_D A (gX h hf ho cI cB G ec (nI (max (i * 2 ^ j) (gfr o b))) fm oa) := hD
              refine lv_iinc (v := (nI (i + 1))) (lv' := [(8, .int (nI (i + 1))), (10, .int (nI (max (i * 2 ^ j) (gfr o b)))), (9, .int (nI (i * 2 ^ j))), (7, .int (fm (6 * g + j))), (6, .int (nI j)), (5, .int (nI (gfr o b))), (4, .int (nI (2 ^ o))), (0, .ref h), (1, .int (nI g)), (2, .int (nI o)), (3, .int (nI b))]) hx hb dX1_search_126 hl (k := 2) rfl (gn_inc i) (by decide) rfl (fun ls hl => ?_)
              refine lv_goto (tgt := 50) hx hb dX1_search_129 (by decide) ?_
              exact ih2 (i + 1, max (i * 2 ^ j) (gfr o b)) _ _ ls ⟨⟨hi2, SRI_take ⟨hoj, c1, c2, c3, c5⟩ c6 hsr⟩, ⟨hP, hD, hS⟩, [(10, _), (9, _)], lv_sub hl [0, 3, 4, 5, 6, 7, 8, 9, 10, 1, 2] rfl⟩ (by show 32 - (i + 1) < 32 - i; omega)
        · refine lv_iload hx hb dX1_search_87 (lv_at hl 0 rfl) ?_
          refine lv_goto (tgt := 94) hx hb dX1_search_89 (by decide) ?_
          refine gx_top (y := (nI (max (i * 2 ^ j) (gfr o b)))) (congrArg nI (Nat.max_eq_left (Nat.le_of_lt c4)).symm) ?_
          refine lv_istore (lv' := [(10, .int (nI (max (i * 2 ^ j) (gfr o b)))), (9, .int (nI (i * 2 ^ j))), (8, .int (nI i)), (7, .int (fm (6 * g + j))), (6, .int (nI j)), (5, .int (nI (gfr o b))), (4, .int (nI (2 ^ o))), (0, .ref h), (1, .int (nI g)), (2, .int (nI o)), (3, .int (nI b))]) hx hb dX1_search_94 hl (by decide) rfl (fun ls hl => ?_)
          refine lv_iload hx hb dX1_search_96 (lv_at hl 0 rfl) ?_
          refine lv_iload hx hb dX1_search_98 (lv_at hl 6 rfl) ?_
          refine gx_iadd (n := max (i * 2 ^ j) (gfr o b) + 2 ^ o) hx hb dX1_search_100 rfl ?_
          refine lv_iload hx hb dX1_search_101 (lv_at hl 1 rfl) ?_
          refine lv_iconst (v := (nI 1)) hx hb dX1_search_103 (by decide) ?_
          refine lv_iload hx hb dX1_search_104 (lv_at hl 4 rfl) ?_
          refine gx_ishl (n := 2 ^ j) hx hb dX1_search_106 (by omega) (Nat.one_mul _) (gp_lt (by omega)) ?_
          refine gx_iadd (n := i * 2 ^ j + 2 ^ j) hx hb dX1_search_107 rfl ?_
          refine gx_icmp_gt (tgt := 126) hx hb dX1_search_108 (by decide) (by omega) (by omega) (fun c5 => ?_) (fun c5 => ?_)
          · refine lv_iinc (v := (nI (i + 1))) (lv' := [(8, .int (nI (i + 1))), (10, .int (nI (max (i * 2 ^ j) (gfr o b)))), (9, .int (nI (i * 2 ^ j))), (7, .int (fm (6 * g + j))), (6, .int (nI j)), (5, .int (nI (gfr o b))), (4, .int (nI (2 ^ o))), (0, .ref h), (1, .int (nI g)), (2, .int (nI o)), (3, .int (nI b))]) hx hb dX1_search_126 hl (k := 2) rfl (gn_inc i) (by decide) rfl (fun ls hl => ?_)
            refine lv_goto (tgt := 50) hx hb dX1_search_129 (by decide) ?_
            exact ih2 (i + 1, f) _ _ ls ⟨⟨hi2, SRI_skip (fun hc => absurd hc.2.2.2.2 (by omega)) hsr⟩, ⟨hP, hD, hS⟩, [(10, _), (9, _)], lv_sub hl [0, 3, 4, 5, 6, 7, 8, 9, 10, 1, 2] rfl⟩ (by show 32 - (i + 1) < 32 - i; omega)
          · refine lv_iload hx hb dX1_search_111 (lv_at hl 0 rfl) ?_
            refine lv_aload_n hx hb dX1_search_113 rfl (lv_at hl 7 rfl) ?_
            refine va_get (D := D) (ci := 0) (v := .int (nI f)) (C := RX1) (T := TX1) (N := 5) hx hb hts in_X1 hown hK hP 0 rfl rfl 4 (by decide) (hts _ q34) (fun _ h9 => h9) rfl dX1_search_114 ?_
            refine gx_icmp_ge (tgt := 126) hx hb dX1_search_117 (by decide) (by omega) (by omega) (fun c6 => ?_) (fun c6 => ?_)
            · refine lv_iinc (v := (nI (i + 1))) (lv' := [(8, .int (nI (i + 1))), (10, .int (nI (max (i * 2 ^ j) (gfr o b)))), (9, .int (nI (i * 2 ^ j))), (7, .int (fm (6 * g + j))), (6, .int (nI j)), (5, .int (nI (gfr o b))), (4, .int (nI (2 ^ o))), (0, .ref h), (1, .int (nI g)), (2, .int (nI o)), (3, .int (nI b))]) hx hb dX1_search_126 hl (k := 2) rfl (gn_inc i) (by decide) rfl (fun ls hl => ?_)
              refine lv_goto (tgt := 50) hx hb dX1_search_129 (by decide) ?_
              exact ih2 (i + 1, f) _ _ ls ⟨⟨hi2, SRI_skip (fun _ => c6) hsr⟩, ⟨hP, hD, hS⟩, [(10, _), (9, _)], lv_sub hl [0, 3, 4, 5, 6, 7, 8, 9, 10, 1, 2] rfl⟩ (by show 32 - (i + 1) < 32 - i; omega)
            · refine lv_aload_n hx hb dX1_search_120 rfl (lv_at hl 7 rfl) ?_
              refine lv_iload hx hb dX1_search_121 (lv_at hl 0 rfl) ?_
              refine va_put (D := D) (ci := 0) (v := .int (nI (max (i * 2 ^ j) (gfr o b)))) (ty := .int) (C := RX1) (T := TX1) (N := 5) hx hb hts in_X1 tyX1 tyX1_ok nmX1 hown hK hP hD hS 0 rfl rfl 4 (by decide) (hts _ q34) (fun _ h9 => h9) rfl (by decide +kernel) rfl rfl (Nat.le_of_ble_eq_true rfl) dX1_search_123 (fun H locs hP hD hS => ?_)
              have hP : va_P D vwCl (gX h hf ho cI cB G ec (nI (max (i * 2 ^ j) (gfr o b))) fm oa) H := hP
              have hD : va_D A (gX h hf ho cI cB G ec (nI (max (i * 2 ^ j) (gfr o b))) fm oa) := hD
              refine lv_iinc (v := (nI (i + 1))) (lv' := [(8, .int (nI (i + 1))), (10, .int (nI (max (i * 2 ^ j) (gfr o b)))), (9, .int (nI (i * 2 ^ j))), (7, .int (fm (6 * g + j))), (6, .int (nI j)), (5, .int (nI (gfr o b))), (4, .int (nI (2 ^ o))), (0, .ref h), (1, .int (nI g)), (2, .int (nI o)), (3, .int (nI b))]) hx hb dX1_search_126 hl (k := 2) rfl (gn_inc i) (by decide) rfl (fun ls hl => ?_)
              refine lv_goto (tgt := 50) hx hb dX1_search_129 (by decide) ?_
              exact ih2 (i + 1, max (i * 2 ^ j) (gfr o b)) _ _ ls ⟨⟨hi2, SRI_take ⟨hoj, c1, c2, c3, c5⟩ c6 hsr⟩, ⟨hP, hD, hS⟩, [(10, _), (9, _)], lv_sub hl [0, 3, 4, 5, 6, 7, 8, 9, 10, 1, 2] rfl⟩ (by show 32 - (i + 1) < 32 - i; omega)
      · refine lv_goto (tgt := 126) hx hb dX1_search_70 (by decide) ?_
        refine lv_iinc (v := (nI (i + 1))) (lv' := [(8, .int (nI (i + 1))), (7, .int (fm (6 * g + j))), (6, .int (nI j)), (5, .int (nI (gfr o b))), (4, .int (nI (2 ^ o))), (0, .ref h), (1, .int (nI g)), (2, .int (nI o)), (3, .int (nI b))]) hx hb dX1_search_126 hl (k := 0) rfl (gn_inc i) (by decide) rfl (fun ls hl => ?_)
        refine lv_goto (tgt := 50) hx hb dX1_search_129 (by decide) ?_
        exact ih2 (i + 1, f) _ _ ls ⟨⟨hi2, SRI_skip (fun hc => absurd hc.2.2.2.1 (by unfold Bt; rw [c3]; decide)) hsr⟩, ⟨hP, hD, hS⟩, [], lv_sub hl [0, 1, 2, 3, 4, 5, 6, 7, 8] rfl⟩ (by show 32 - (i + 1) < 32 - i; omega)
end
section
theorem gp_half {k b : Nat} (hk : k < 5) (h1 : b % 2 ^ k = 0) (h2 : b / 2 ^ k % 2 = 0) : b % 32 + 2 ^ k < 32 := by
  rcases (show k = 0 ∨ k = 1 ∨ k = 2 ∨ k = 3 ∨ k = 4 by omega) with rfl | rfl | rfl | rfl | rfl <;> simp only [Nat.reducePow] at h1 h2 ⊢ <;> omega
theorem gp_half2 {k b : Nat} (hk : k + 1 < 6) (h1 : b % 2 ^ (k + 1) = 0) : b % 32 + 2 ^ k < 32 := by
  rcases (show k = 0 ∨ k = 1 ∨ k = 2 ∨ k = 3 ∨ k = 4 by omega) with rfl | rfl | rfl | rfl | rfl <;> simp only [Nat.reducePow, Nat.reduceAdd] at h1 ⊢ <;> omega
/-- what allocate does: order o, goal b -/
def ax_allo (fm oa : Nat → Int32) (ec : Int32) (G o b : Nat) (r : Int32) (u : Int32 × Int32 × (Nat → Int32) × (Nat → Int32)) : Prop :=
  (∃ f, f < 32 ∧ SRF fm (b / 32) o (b % 32) f ∧ MK fm oa ec (b / 32) o f r u) ∨
  (SRF fm (b / 32) o (b % 32) 32 ∧ ((∃ k f, k < G ∧ (∀ a, a < k → SRF fm ((b / 32 + a) % G) o 0 32) ∧ f < 32 ∧ SRF fm ((b / 32 + k) % G) o 0 f ∧ MK fm oa ec ((b / 32 + k) % G) o f r u) ∨ ((∀ a, a < G → SRF fm ((b / 32 + a) % G) o 0 32) ∧ r = -2 ∧ ∃ fd', u = (ec, fd', fm, oa))))
def ax_claim (fm oa : Nat → Int32) (ec : Int32) (o b : Nat) (r : Int32) (u : Int32 × Int32 × (Nat → Int32) × (Nat → Int32)) : Prop :=
  (¬ b % 2 ^ o = 0 ∧ r = -1 ∧ ∃ fd', u = (ec, fd', fm, oa)) ∨ (b % 2 ^ o = 0 ∧ ¬ FR fm (b / 32) o (b % 32) ∧ r = -2 ∧ ∃ fd', u = (ec, fd', fm, oa)) ∨ (b % 2 ^ o = 0 ∧ FR fm (b / 32) o (b % 32) ∧ MK fm oa ec (b / 32) o (b % 32) r u)
def ax_rel (fm oa : Nat → Int32) (ec : Int32) (b : Nat) (r : Int32) (u : Int32 × Int32 × (Nat → Int32) × (Nat → Int32)) : Prop :=
  ∃ k, k < 6 ∧ oa b = nI k ∧ r = nI k ∧ ∃ J fm', GJ fm (b / 32) k (b % 32) J ∧ GB fm fm' (b / 32) k (b % 32) J ∧ ∃ fd', u = (ec - nI 1, fd', fm', upd oa b (-1))
def ax_grow (fm oa : Nat → Int32) (ec : Int32) (b : Nat) (r : Int32) (u : Int32 × Int32 × (Nat → Int32) × (Nat → Int32)) : Prop :=
  ∃ k, k < 6 ∧ oa b = nI k ∧ (((k = 5 ∨ ¬ b / 2 ^ k % 2 = 0 ∨ ¬ FR fm (b / 32) k (b % 32 + 2 ^ k)) ∧ r = -2 ∧ ∃ fd', u = (ec, fd', fm, oa)) ∨ (k < 5 ∧ b / 2 ^ k % 2 = 0 ∧ r = nI (k + 1) ∧ ∃ J fm', J < 6 ∧ k ≤ J ∧ FOA fm (b / 32) (b % 32 + 2 ^ k) J ∧ CV fm fm' (b / 32) k (b % 32 + 2 ^ k) J ∧ ∃ fd', u = (ec, fd', fm', upd oa b (nI (k + 1)))))
def ax_halve (fm oa : Nat → Int32) (ec : Int32) (b : Nat) (r : Int32) (u : Int32 × Int32 × (Nat → Int32) × (Nat → Int32)) : Prop :=
  ∃ k, k < 6 ∧ oa b = nI k ∧ ((k = 0 ∧ r = -2 ∧ ∃ fd', u = (ec, fd', fm, oa)) ∨ ∃ q, k = q + 1 ∧ r = nI q ∧ ∃ J fm', GJ fm (b / 32) q (b % 32 + 2 ^ q) J ∧ GB fm fm' (b / 32) q (b % 32 + 2 ^ q) J ∧ ∃ fd', u = (ec, fd', fm', upd oa b (nI q)))
theorem SRF_32 {fm : Nat → Int32} {g o l f : Nat} (h : SRF fm g o l f) (c : ¬ f < 32) : SRF fm g o l 32 := by
  have e : f = 32 := Nat.le_antisymm h.1 (Nat.not_lt.mp c)
  rw [← e]; exact h
set_option maxHeartbeats 4000000 in
set_option maxRecDepth 100000 in
theorem mX1_occupy (l : Launch) (D : va_G) (h hf ho : Nat) (cI cB : ClassId) (G : Nat) (ec fd : Int32) (fm oa : Nat → Int32) (sz : Nat) (g o f J0 : Nat) (hfd : fd = nI f) (hg : g < 4) (ho6 : o < 6) (hf0 : f < 32) (hJ0 : J0 < 6) (hF : FOA fm g f J0) : Met l yX1_occupy (ws_ yX1_occupy cX1_occupy 4 (some .int)) ({ frames := 2, cells := 0, slots := 0, locals := 48 } : Room) (gw_Pc D (gX h hf ho cI cB G ec fd fm oa) (tX cI cB) sz [.ref h, .int (nI g), .int (nI o)]) (gw_Q D (tX cI cB) (fun u : (Int32 × Int32 × (Nat → Int32) × (Nat → Int32)) => gX h hf ho cI cB G u.1 u.2.1 u.2.2.1 u.2.2.2) (fun (r : Int32) (u : (Int32 × Int32 × (Nat → Int32) × (Nat → Int32))) => MK fm oa ec g o f r u) (va_A (gX h hf ho cI cB G ec fd fm oa) sz)) 0 0 (va_A (gX h hf ho cI cB G ec fd fm oa) sz) := by
  refine gw_ofQ (gw_Q D (tX cI cB) (fun u : (Int32 × Int32 × (Nat → Int32) × (Nat → Int32)) => gX h hf ho cI cB G u.1 u.2.1 u.2.2.1 u.2.2.2) (fun (r : Int32) (u : (Int32 × Int32 × (Nat → Int32) × (Nat → Int32))) => MK fm oa ec g o f r u)) (by decide) (Nat.le_of_ble_eq_true rfl) ?_
  intro p e s m below meth c ls A hx hb hr hml hown hts hlocks _ hP hK hD hS hA hl
  have hl : lv_has ls 4 [(0, .ref h), (1, .int (nI g)), (2, .int (nI o))] := hl
  have hown : s.vm.findClass RX1 = some m.cls := hown
  have hP : va_P D vwCl (gX h hf ho cI cB G ec fd fm oa) s.heap := hP
  have hD : va_D A (gX h hf ho cI cB G ec fd fm oa) := hD
  subst hfd
  refine lv_bipush (v := (nI 32)) hx hb dX1_occupy_0 (by decide) ?_
  refine lv_iload_n hx hb dX1_occupy_2 rfl (lv_at hl 1 rfl) ?_
  refine gx_imul (n := 32 * g) hx hb dX1_occupy_3 rfl ?_
  refine lv_aload_n hx hb dX1_occupy_4 rfl (lv_at hl 0 rfl) ?_
  refine va_get (D := D) (ci := 0) (v := .int (nI f)) (C := RX1) (T := TX1) (N := 5) hx hb hts in_X1 hown hK hP 0 rfl rfl 4 (by decide) (hts _ q34) (fun _ h9 => h9) rfl dX1_occupy_5 ?_
  refine gx_iadd (n := 32 * g + f) hx hb dX1_occupy_8 rfl ?_
  refine lv_istore_n (lv' := [(3, .int (nI (32 * g + f))), (0, .ref h), (1, .int (nI g)), (2, .int (nI o))]) hx hb dX1_occupy_9 rfl hl (by decide) rfl (fun ls hl => ?_)
  refine lv_aload_n hx hb dX1_occupy_10 rfl (lv_at hl 1 rfl) ?_
  refine lv_iload_n hx hb dX1_occupy_11 rfl (lv_at hl 2 rfl) ?_
  refine lv_iload_n hx hb dX1_occupy_12 rfl (lv_at hl 3 rfl) ?_
  refine lv_aload_n hx hb dX1_occupy_13 rfl (lv_at hl 1 rfl) ?_
  refine va_get (D := D) (ci := 0) (v := .int (nI f)) (C := RX1) (T := TX1) (N := 5) hx hb hts in_X1 hown hK hP 0 rfl rfl 4 (by decide) (hts _ q34) (fun _ h9 => h9) rfl dX1_occupy_14 ?_
  refine gw_cV (wr := []) (As := [.int (nI g), .int (nI o), .int (nI f)]) (rest := []) (ci := 0) (q0 := 0) ⟨hx, hb, hml, hown, hts⟩ (mX1_carve l D h hf ho cI cB G ec (nI f) fm oa _ g o f J0 hg ho6 hf0 hJ0 hF) (cwV 3 hts (lw_V q68 q70 qs4 q20 q71) rfl rfl rfl (by decide +kernel) ⟨Nat.le_of_ble_eq_true rfl, Nat.le_of_ble_eq_true rfl⟩) hK hP hD hS hA [0, 1, 2] [] rfl (by decide) rfl rfl (by decide) (by decide) rfl rfl rfl hl.1 rfl (Nat.le_of_ble_eq_true rfl) dX1_occupy_17 ⟨Nat.zero_le _, Nat.zero_le _⟩ (fun u H locs h1 hP hD hS => ?_)
  obtain ⟨fm1, hcv, rfl⟩ := h1
  have hP : va_P D vwCl (gX h hf ho cI cB G ec (nI f) fm1 oa) H := hP
  have hD : va_D A (gX h hf ho cI cB G ec (nI f) fm1 oa) := hD
  refine lv_aload_n hx hb dX1_occupy_20 rfl (lv_at hl 1 rfl) ?_
  refine va_get (D := D) (ci := 0) (v := .ref ho) (C := RX1) (T := TX1) (N := 5) hx hb hts in_X1 hown hK hP 0 rfl rfl 2 (by decide) (hts _ q32) (fun _ h9 => h9) rfl dX1_occupy_21 ?_
  refine lv_iload_n hx hb dX1_occupy_24 rfl (lv_at hl 0 rfl) ?_
  refine lv_iload_n hx hb dX1_occupy_25 rfl (lv_at hl 3 rfl) ?_
  refine gx_i2b hx hb dX1_occupy_26 (by omega) ?_
  refine gx_bast hx hb hK hP hD hS 2 1 rfl rfl (by omega) (by decide) (fa_byte_small (by omega)) dX1_occupy_27 (fun H locs hP hD hS => ?_)
  have hP : va_P D vwCl (gX h hf ho cI cB G ec (nI f) fm1 ((upd oa (32 * g + f) ((nI o))))) H := hP
  have hD : va_D A (gX h hf ho cI cB G ec (nI f) fm1 ((upd oa (32 * g + f) ((nI o))))) := hD
  refine lv_aload_n hx hb dX1_occupy_28 rfl (lv_at hl 1 rfl) ?_
  refine lv_dup hx hb dX1_occupy_29 rfl ?_
  refine va_get (D := D) (ci := 0) (v := .int ec) (C := RX1) (T := TX1) (N := 5) hx hb hts in_X1 hown hK hP 0 rfl rfl 3 (by decide) (hts _ q33) (fun _ h9 => h9) rfl dX1_occupy_30 ?_
  refine lv_iconst (v := (nI 1)) hx hb dX1_occupy_33 (by decide) ?_
  refine lv_iadd hx hb dX1_occupy_34 ?_
  refine va_put (D := D) (ci := 0) (v := .int (ec + (nI 1))) (ty := .int) (C := RX1) (T := TX1) (N := 5) hx hb hts in_X1 tyX1 tyX1_ok nmX1 hown hK hP hD hS 0 rfl rfl 3 (by decide) (hts _ q33) (fun _ h9 => h9) rfl (by decide +kernel) rfl rfl (Nat.le_of_ble_eq_true rfl) dX1_occupy_35 (fun H locs hP hD hS => ?_)
  have hP : va_P D vwCl (gX h hf ho cI cB G ((ec + (nI 1))) (nI f) fm1 ((upd oa (32 * g + f) ((nI o))))) H := hP
  have hD : va_D A (gX h hf ho cI cB G ((ec + (nI 1))) (nI f) fm1 ((upd oa (32 * g + f) ((nI o))))) := hD
  refine lv_iload_n hx hb dX1_occupy_38 rfl (lv_at hl 0 rfl) ?_
  exact W.iret (v := (nI (32 * g + f))) hx hb hr (fun t9 ht9 hW9 => ⟨⟨_, ((ec + (nI 1)), nI f, fm1, (upd oa (32 * g + f) ((nI o)))), rfl, ⟨J0, hJ0, hF, rfl, fm1, hcv, rfl⟩, by rw [ht9]; exact hP, va_K.moved hW9.alike hK, hD⟩, hS.F ht9⟩) hS.2.2 dX1_occupy_39
set_option maxHeartbeats 4000000 in
set_option maxRecDepth 100000 in
theorem mX1_allocate (l : Launch) (D : va_G) (h hf ho : Nat) (cI cB : ClassId) (G : Nat) (ec fd : Int32) (fm oa : Nat → Int32) (sz : Nat) (hG1 : 0 < G) (hG : G ≤ 4) (x y : Int32) : Met l yX1_allocate (ws_ yX1_allocate cX1_allocate 6 (some .int)) ({ frames := 3, cells := 0, slots := 0, locals := 71 } : Room) (gw_Pc D (gX h hf ho cI cB G ec fd fm oa) (tX cI cB) sz [.ref h, .int x, .int y]) (gw_Q D (tX cI cB) (fun u : (Int32 × Int32 × (Nat → Int32) × (Nat → Int32)) => gX h hf ho cI cB G u.1 u.2.1 u.2.2.1 u.2.2.2) (fun (r : Int32) (u : (Int32 × Int32 × (Nat → Int32) × (Nat → Int32))) => (¬ (okN 6 x ∧ okN (32 * G) y) ∧ r = -1 ∧ ∃ fd', u = (ec, fd', fm, oa)) ∨ (∃ o b, o < 6 ∧ b < 32 * G ∧ x = nI o ∧ y = nI b ∧ ax_allo fm oa ec G o b r u)) (va_A (gX h hf ho cI cB G ec fd fm oa) sz)) 0 0 (va_A (gX h hf ho cI cB G ec fd fm oa) sz) := by
  refine gw_ofQ (gw_Q D (tX cI cB) (fun u : (Int32 × Int32 × (Nat → Int32) × (Nat → Int32)) => gX h hf ho cI cB G u.1 u.2.1 u.2.2.1 u.2.2.2) (fun (r : Int32) (u : (Int32 × Int32 × (Nat → Int32) × (Nat → Int32))) => (¬ (okN 6 x ∧ okN (32 * G) y) ∧ r = -1 ∧ ∃ fd', u = (ec, fd', fm, oa)) ∨ (∃ o b, o < 6 ∧ b < 32 * G ∧ x = nI o ∧ y = nI b ∧ ax_allo fm oa ec G o b r u))) (by decide) (Nat.le_of_ble_eq_true rfl) ?_
  intro p e s m below meth c ls A hx hb hr hml hown hts hlocks _ hP hK hD hS hA hl
  have hl : lv_has ls 6 [(0, .ref h), (1, .int x), (2, .int y)] := hl
  have hown : s.vm.findClass RX1 = some m.cls := hown
  have hP : va_P D vwCl (gX h hf ho cI cB G ec fd fm oa) s.heap := hP
  have hD : va_D A (gX h hf ho cI cB G ec fd fm oa) := hD
  refine lv_aload_n hx hb dX1_allocate_0 rfl (lv_at hl 0 rfl) ?_
  refine lv_iload_n hx hb dX1_allocate_1 rfl (lv_at hl 1 rfl) ?_
  refine gw_cS (As := [.int x]) (rest := []) (ci := 0) (q0 := 0) ⟨hx, hb, hml, hown, hts⟩ (mX1_isOrder l D h hf ho cI cB G ec fd fm oa x) (cwV 1 hts (lw_V q52 q54 qs0 q20 q55) rfl rfl rfl (by decide +kernel) ⟨Nat.le_of_ble_eq_true rfl, Nat.le_of_ble_eq_true rfl⟩) hK hP rfl rfl rfl hl.1 rfl (Nat.le_of_ble_eq_true rfl) dX1_allocate_2 ⟨Nat.zero_le _, Nat.zero_le _⟩ (fun r h1 => ?_)
  refine gx_if_eqP (tgt := 16) hx hb dX1_allocate_5 (by decide) h1 (fun c1 => ?_) (fun c1 => ?_)
  · refine lv_iconst (v := (-1)) hx hb dX1_allocate_16 (by decide) ?_
    exact W.iret (v := (-1)) hx hb hr (fun t9 ht9 hW9 => ⟨⟨_, (ec, fd, fm, oa), rfl, Or.inl ⟨fun q => c1 q.1, rfl, _, rfl⟩, by rw [ht9]; exact hP, va_K.moved hW9.alike hK, hD⟩, hS.F ht9⟩) hS.2.2 dX1_allocate_17
  · obtain ⟨o, ho6, rfl⟩ := c1
    refine lv_aload_n hx hb dX1_allocate_8 rfl (lv_at hl 0 rfl) ?_
    refine lv_iload_n hx hb dX1_allocate_9 rfl (lv_at hl 2 rfl) ?_
    refine gw_cS (As := [.int y]) (rest := []) (ci := 0) (q0 := 0) ⟨hx, hb, hml, hown, hts⟩ (mX1_isBlock l D h hf ho cI cB G ec fd fm oa hG y) (cwV 1 hts (lw_V q56 q58 qs1 q20 q59) rfl rfl rfl (by decide +kernel) ⟨Nat.le_of_ble_eq_true rfl, Nat.le_of_ble_eq_true rfl⟩) hK hP rfl rfl rfl hl.1 rfl (Nat.le_of_ble_eq_true rfl) dX1_allocate_10 ⟨Nat.zero_le _, Nat.zero_le _⟩ (fun r h2 => ?_)
    refine gx_if_neP (tgt := 18) hx hb dX1_allocate_13 (by decide) h2 (fun c2 => ?_) (fun c2 => ?_)
    · obtain ⟨b, hb0, rfl⟩ := c2
      refine lv_iload_n hx hb dX1_allocate_18 rfl (lv_at hl 2 rfl) ?_
      refine lv_iconst (v := (nI 5)) hx hb dX1_allocate_19 (by decide) ?_
      refine gx_ishr (n := b / 32) hx hb dX1_allocate_20 (by omega) (by decide) rfl ?_
      refine lv_istore_n (lv' := [(3, .int (nI (b / 32))), (0, .ref h), (1, .int (nI o)), (2, .int (nI b))]) hx hb dX1_allocate_21 rfl hl (by decide) rfl (fun ls hl => ?_)
      refine lv_aload_n hx hb dX1_allocate_22 rfl (lv_at hl 1 rfl) ?_
      refine lv_iload_n hx hb dX1_allocate_23 rfl (lv_at hl 0 rfl) ?_
      refine lv_iload_n hx hb dX1_allocate_24 rfl (lv_at hl 2 rfl) ?_
      refine lv_iload_n hx hb dX1_allocate_25 rfl (lv_at hl 3 rfl) ?_
      refine lv_bipush (v := (nI 31)) hx hb dX1_allocate_26 (by decide) ?_
      refine gx_iand (n := b % 32) hx hb dX1_allocate_28 5 (by omega) rfl (by decide) rfl ?_
      refine gw_cI (wr := []) (As := [.int (nI (b / 32)), .int (nI o), .int (nI (b % 32))]) (rest := []) (ci := 0) (q0 := 0) ⟨hx, hb, hml, hown, hts⟩ (mX1_search l D h hf ho cI cB G ec fd fm oa _ (b / 32) o (b % 32) (by omega) ho6 (by omega)) (cwV 3 hts (lw_V q60 q62 qs2 q20 q63) rfl rfl rfl (by decide +kernel) ⟨Nat.le_of_ble_eq_true rfl, Nat.le_of_ble_eq_true rfl⟩) hK hP hD hS hA [0, 1, 2] [] rfl (by decide) rfl rfl (by decide) (by decide) rfl rfl rfl hl.1 rfl (Nat.le_of_ble_eq_true rfl) dX1_allocate_29 ⟨Nat.zero_le _, Nat.zero_le _⟩ (fun r u H locs h3 hP hD hS => ?_)
      obtain ⟨f, rfl, hsr, h3⟩ := h3
      have hP : va_P D vwCl (gX h hf ho cI cB G ec (nI f) fm oa) H := hP
      have hD : va_D A (gX h hf ho cI cB G ec (nI f) fm oa) := hD
      refine gx_if_eqP (tgt := 42) hx hb dX1_allocate_32 (by decide) h3 (fun c3 => ?_) (fun c3 => ?_)
      · have hsr := SRF_32 hsr c3
        refine lv_iconst (v := (nI 0)) hx hb dX1_allocate_42 (by decide) ?_
        refine lv_istore (lv' := [(4, .int (nI 0)), (3, .int (nI (b / 32))), (0, .ref h), (1, .int (nI o)), (2, .int (nI b))]) hx hb dX1_allocate_43 hl (by decide) rfl (fun ls hl => ?_)
        refine gx_loopM (σ := Nat × Int32) (fun x H locs ls => (x.1 ≤ G ∧ ∀ a, a < x.1 → SRF fm ((b / 32 + a) % G) o 0 32) ∧ (va_P D vwCl (gX h hf ho cI cB G ec x.2 fm oa) H ∧ va_D A (gX h hf ho cI cB G ec x.2 fm oa) ∧ va_S A s.heap H locs) ∧ ∃ z, lv_has ls 6 ([(4, .int (nI x.1)), (3, .int (nI (b / 32))), (0, .ref h), (1, .int (nI o)), (2, .int (nI b))] ++ z)) (fun x => G - x.1) (0, nI f) ⟨⟨Nat.zero_le _, fun a q => absurd q (Nat.not_lt_zero a)⟩, ⟨hP, hD, hS⟩, [], hl⟩ ?_
        rintro ⟨k, fd1⟩ H locs ls ⟨⟨hk, hno⟩, ⟨hP, hD, hS⟩, z, hl⟩ ih
        have hl : lv_has ls 6 [(4, .int (nI k)), (3, .int (nI (b / 32))), (0, .ref h), (1, .int (nI o)), (2, .int (nI b))] := gl_left hl
        have hk : k ≤ G := hk
        have hno : ∀ a, a < k → SRF fm ((b / 32 + a) % G) o 0 32 := hno
        have hP : va_P D vwCl (gX h hf ho cI cB G ec fd1 fm oa) H := hP
        have hD : va_D A (gX h hf ho cI cB G ec fd1 fm oa) := hD
        refine lv_iload hx hb dX1_allocate_45 (lv_at hl 0 rfl) ?_
        refine lv_aload_n hx hb dX1_allocate_47 rfl (lv_at hl 2 rfl) ?_
        refine va_get (D := D) (ci := 0) (v := .int (nI G)) (C := RX1) (T := TX1) (N := 5) hx hb hts in_X1 hown hK hP 0 rfl rfl 0 (by decide) (hts _ q30) (fun _ h9 => h9) rfl dX1_allocate_48 ?_
        refine gx_icmp_ge (tgt := 90) hx hb dX1_allocate_51 (by decide) (by omega) (by omega) (fun c4 => ?_) (fun c4 => ?_)
        · refine lv_bipush (v := (-2)) hx hb dX1_allocate_90 (by decide) ?_
          exact W.iret (v := (-2)) hx hb hr (fun t9 ht9 hW9 => ⟨⟨_, (ec, fd1, fm, oa), rfl, Or.inr ⟨o, b, ho6, hb0, rfl, rfl, Or.inr ⟨hsr, Or.inr ⟨fun a ha => hno a (Nat.lt_of_lt_of_le ha c4), rfl, _, rfl⟩⟩⟩, by rw [ht9]; exact hP, va_K.moved hW9.alike hK, hD⟩, hS.F ht9⟩) hS.2.2 dX1_allocate_92
        · have hq : (b / 32 + k) % G < G := Nat.mod_lt _ (by omega)
          refine lv_iload_n hx hb dX1_allocate_54 rfl (lv_at hl 1 rfl) ?_
          refine lv_iload hx hb dX1_allocate_55 (lv_at hl 0 rfl) ?_
          refine gx_iadd (n := b / 32 + k) hx hb dX1_allocate_57 rfl ?_
          refine lv_aload_n hx hb dX1_allocate_58 rfl (lv_at hl 2 rfl) ?_
          refine va_get (D := D) (ci := 0) (v := .int (nI G)) (C := RX1) (T := TX1) (N := 5) hx hb hts in_X1 hown hK hP 0 rfl rfl 0 (by decide) (hts _ q30) (fun _ h9 => h9) rfl dX1_allocate_59 ?_
          refine gx_irem (n := (b / 32 + k) % G) hx hb dX1_allocate_62 (by omega) (by omega) (by omega) rfl ?_
          refine lv_istore (lv' := [(5, .int (nI ((b / 32 + k) % G))), (4, .int (nI k)), (3, .int (nI (b / 32))), (0, .ref h), (1, .int (nI o)), (2, .int (nI b))]) hx hb dX1_allocate_63 hl (by decide) rfl (fun ls hl => ?_)
          refine lv_aload_n hx hb dX1_allocate_65 rfl (lv_at hl 3 rfl) ?_
          refine lv_iload hx hb dX1_allocate_66 (lv_at hl 0 rfl) ?_
          refine lv_iload_n hx hb dX1_allocate_68 rfl (lv_at hl 4 rfl) ?_
          refine lv_iconst (v := (nI 0)) hx hb dX1_allocate_69 (by decide) ?_
          refine gw_cI (wr := []) (As := [.int (nI ((b / 32 + k) % G)), .int (nI o), .int (nI 0)]) (rest := []) (ci := 0) (q0 := 0) ⟨hx, hb, hml, hown, hts⟩ (mX1_search l D h hf ho cI cB G ec fd1 fm oa _ ((b / 32 + k) % G) o 0 (by omega) ho6 (by decide)) (cwV 3 hts (lw_V q60 q62 qs2 q20 q63) rfl rfl rfl (by decide +kernel) ⟨Nat.le_of_ble_eq_true rfl, Nat.le_of_ble_eq_true rfl⟩) hK hP hD hS hA [0, 1, 2] [] rfl (by decide) rfl rfl (by decide) (by decide) rfl rfl rfl hl.1 rfl (Nat.le_of_ble_eq_true rfl) dX1_allocate_70 ⟨Nat.zero_le _, Nat.zero_le _⟩ (fun r u H locs h5 hP hD hS => ?_)
          obtain ⟨f2, rfl, hsr2, h5⟩ := h5
          have hP : va_P D vwCl (gX h hf ho cI cB G ec (nI f2) fm oa) H := hP
          have hD : va_D A (gX h hf ho cI cB G ec (nI f2) fm oa) := hD
          refine gx_if_eqP (tgt := 84) hx hb dX1_allocate_73 (by decide) h5 (fun c5 => ?_) (fun c5 => ?_)
          · refine lv_iinc (v := (nI (k + 1))) (lv' := [(4, .int (nI (k + 1))), (5, .int (nI ((b / 32 + k) % G))), (3, .int (nI (b / 32))), (0, .ref h), (1, .int (nI o)), (2, .int (nI b))]) hx hb dX1_allocate_84 hl (k := 1) rfl (gn_inc k) (by decide) rfl (fun ls hl => ?_)
            refine lv_goto (tgt := 45) hx hb dX1_allocate_87 (by decide) ?_
            exact ih (k + 1, _) _ _ ls ⟨⟨by show k + 1 ≤ G; omega, lt_s hno (SRF_32 hsr2 c5)⟩, ⟨hP, hD, hS⟩, [(5, _)], lv_sub hl [0, 2, 3, 4, 5, 1] rfl⟩ (by show G - (k + 1) < G - k; omega)
          · obtain ⟨J0, hJ0, hF⟩ := SRF_foa hsr2 c5
            refine lv_aload_n hx hb dX1_allocate_76 rfl (lv_at hl 3 rfl) ?_
            refine lv_iload hx hb dX1_allocate_77 (lv_at hl 0 rfl) ?_
            refine lv_iload_n hx hb dX1_allocate_79 rfl (lv_at hl 4 rfl) ?_
            refine gw_cI (wr := []) (As := [.int (nI ((b / 32 + k) % G)), .int (nI o)]) (rest := []) (ci := 0) (q0 := 0) ⟨hx, hb, hml, hown, hts⟩ (mX1_occupy l D h hf ho cI cB G ec (nI f2) fm oa _ ((b / 32 + k) % G) o f2 J0 rfl (by omega) ho6 c5 hJ0 hF) (cwV 2 hts (lw_V q64 q66 qs3 q20 q67) rfl rfl rfl (by decide +kernel) ⟨Nat.le_of_ble_eq_true rfl, Nat.le_of_ble_eq_true rfl⟩) hK hP hD hS hA [0, 1, 2] [] rfl (by decide) rfl rfl (by decide) (by decide) rfl rfl rfl hl.1 rfl (Nat.le_of_ble_eq_true rfl) dX1_allocate_80 ⟨Nat.zero_le _, Nat.zero_le _⟩ (fun r u H locs h6 hP hD hS => ?_)
            obtain ⟨u1, u2, u3, u4⟩ := u
            have hP : va_P D vwCl (gX h hf ho cI cB G u1 u2 u3 u4) H := hP
            have hD : va_D A (gX h hf ho cI cB G u1 u2 u3 u4) := hD
            exact W.iret (v := r) hx hb hr (fun t9 ht9 hW9 => ⟨⟨_, (u1, u2, u3, u4), rfl, Or.inr ⟨o, b, ho6, hb0, rfl, rfl, Or.inr ⟨hsr, Or.inl ⟨k, f2, c4, hno, c5, hsr2, h6⟩⟩⟩, by rw [ht9]; exact hP, va_K.moved hW9.alike hK, hD⟩, hS.F ht9⟩) hS.2.2 dX1_allocate_83
      · obtain ⟨J0, hJ0, hF⟩ := SRF_foa hsr c3
        refine lv_aload_n hx hb dX1_allocate_35 rfl (lv_at hl 1 rfl) ?_
        refine lv_iload_n hx hb dX1_allocate_36 rfl (lv_at hl 0 rfl) ?_
        refine lv_iload_n hx hb dX1_allocate_37 rfl (lv_at hl 2 rfl) ?_
        refine gw_cI (wr := []) (As := [.int (nI (b / 32)), .int (nI o)]) (rest := []) (ci := 0) (q0 := 0) ⟨hx, hb, hml, hown, hts⟩ (mX1_occupy l D h hf ho cI cB G ec (nI f) fm oa _ (b / 32) o f J0 rfl (by omega) ho6 c3 hJ0 hF) (cwV 2 hts (lw_V q64 q66 qs3 q20 q67) rfl rfl rfl (by decide +kernel) ⟨Nat.le_of_ble_eq_true rfl, Nat.le_of_ble_eq_true rfl⟩) hK hP hD hS hA [0, 1, 2] [] rfl (by decide) rfl rfl (by decide) (by decide) rfl rfl rfl hl.1 rfl (Nat.le_of_ble_eq_true rfl) dX1_allocate_38 ⟨Nat.zero_le _, Nat.zero_le _⟩ (fun r u H locs h6 hP hD hS => ?_)
        obtain ⟨u1, u2, u3, u4⟩ := u
        have hP : va_P D vwCl (gX h hf ho cI cB G u1 u2 u3 u4) H := hP
        have hD : va_D A (gX h hf ho cI cB G u1 u2 u3 u4) := hD
        exact W.iret (v := r) hx hb hr (fun t9 ht9 hW9 => ⟨⟨_, (u1, u2, u3, u4), rfl, Or.inr ⟨o, b, ho6, hb0, rfl, rfl, Or.inl ⟨f, c3, hsr, h6⟩⟩, by rw [ht9]; exact hP, va_K.moved hW9.alike hK, hD⟩, hS.F ht9⟩) hS.2.2 dX1_allocate_41
    · refine lv_iconst (v := (-1)) hx hb dX1_allocate_16 (by decide) ?_
      exact W.iret (v := (-1)) hx hb hr (fun t9 ht9 hW9 => ⟨⟨_, (ec, fd, fm, oa), rfl, Or.inl ⟨fun q => c2 q.2, rfl, _, rfl⟩, by rw [ht9]; exact hP, va_K.moved hW9.alike hK, hD⟩, hS.F ht9⟩) hS.2.2 dX1_allocate_17
set_option maxHeartbeats 4000000 in
set_option maxRecDepth 100000 in
theorem mX1_claim (l : Launch) (D : va_G) (h hf ho : Nat) (cI cB : ClassId) (G : Nat) (ec fd : Int32) (fm oa : Nat → Int32) (sz : Nat) (hG : G ≤ 4) (x y : Int32) : Met l yX1_claim (ws_ yX1_claim cX1_claim 3 (some .int)) ({ frames := 3, cells := 0, slots := 0, locals := 71 } : Room) (gw_Pc D (gX h hf ho cI cB G ec fd fm oa) (tX cI cB) sz [.ref h, .int x, .int y]) (gw_Q D (tX cI cB) (fun u : (Int32 × Int32 × (Nat → Int32) × (Nat → Int32)) => gX h hf ho cI cB G u.1 u.2.1 u.2.2.1 u.2.2.2) (fun (r : Int32) (u : (Int32 × Int32 × (Nat → Int32) × (Nat → Int32))) => (¬ (okN 6 x ∧ okN (32 * G) y) ∧ r = -1 ∧ ∃ fd', u = (ec, fd', fm, oa)) ∨ (∃ o b, o < 6 ∧ b < 32 * G ∧ x = nI o ∧ y = nI b ∧ ax_claim fm oa ec o b r u)) (va_A (gX h hf ho cI cB G ec fd fm oa) sz)) 0 0 (va_A (gX h hf ho cI cB G ec fd fm oa) sz) := by
  refine gw_ofQ (gw_Q D (tX cI cB) (fun u : (Int32 × Int32 × (Nat → Int32) × (Nat → Int32)) => gX h hf ho cI cB G u.1 u.2.1 u.2.2.1 u.2.2.2) (fun (r : Int32) (u : (Int32 × Int32 × (Nat → Int32) × (Nat → Int32))) => (¬ (okN 6 x ∧ okN (32 * G) y) ∧ r = -1 ∧ ∃ fd', u = (ec, fd', fm, oa)) ∨ (∃ o b, o < 6 ∧ b < 32 * G ∧ x = nI o ∧ y = nI b ∧ ax_claim fm oa ec o b r u))) (by decide) (Nat.le_of_ble_eq_true rfl) ?_
  intro p e s m below meth c ls A hx hb hr hml hown hts hlocks _ hP hK hD hS hA hl
  have hl : lv_has ls 3 [(0, .ref h), (1, .int x), (2, .int y)] := hl
  have hown : s.vm.findClass RX1 = some m.cls := hown
  have hP : va_P D vwCl (gX h hf ho cI cB G ec fd fm oa) s.heap := hP
  have hD : va_D A (gX h hf ho cI cB G ec fd fm oa) := hD
  refine lv_aload_n hx hb dX1_claim_0 rfl (lv_at hl 0 rfl) ?_
  refine lv_iload_n hx hb dX1_claim_1 rfl (lv_at hl 1 rfl) ?_
  refine gw_cS (As := [.int x]) (rest := []) (ci := 0) (q0 := 0) ⟨hx, hb, hml, hown, hts⟩ (mX1_isOrder l D h hf ho cI cB G ec fd fm oa x) (cwV 1 hts (lw_V q52 q54 qs0 q20 q55) rfl rfl rfl (by decide +kernel) ⟨Nat.le_of_ble_eq_true rfl, Nat.le_of_ble_eq_true rfl⟩) hK hP rfl rfl rfl hl.1 rfl (Nat.le_of_ble_eq_true rfl) dX1_claim_2 ⟨Nat.zero_le _, Nat.zero_le _⟩ (fun r h1 => ?_)
  refine gx_if_eqP (tgt := 16) hx hb dX1_claim_5 (by decide) h1 (fun c1 => ?_) (fun c1 => ?_)
  · refine lv_iconst (v := (-1)) hx hb dX1_claim_16 (by decide) ?_
    exact W.iret (v := (-1)) hx hb hr (fun t9 ht9 hW9 => ⟨⟨_, (ec, fd, fm, oa), rfl, Or.inl ⟨fun q => c1 q.1, rfl, _, rfl⟩, by rw [ht9]; exact hP, va_K.moved hW9.alike hK, hD⟩, hS.F ht9⟩) hS.2.2 dX1_claim_17
  · obtain ⟨o, ho6, rfl⟩ := c1
    refine lv_aload_n hx hb dX1_claim_8 rfl (lv_at hl 0 rfl) ?_
    refine lv_iload_n hx hb dX1_claim_9 rfl (lv_at hl 2 rfl) ?_
    refine gw_cS (As := [.int y]) (rest := []) (ci := 0) (q0 := 0) ⟨hx, hb, hml, hown, hts⟩ (mX1_isBlock l D h hf ho cI cB G ec fd fm oa hG y) (cwV 1 hts (lw_V q56 q58 qs1 q20 q59) rfl rfl rfl (by decide +kernel) ⟨Nat.le_of_ble_eq_true rfl, Nat.le_of_ble_eq_true rfl⟩) hK hP rfl rfl rfl hl.1 rfl (Nat.le_of_ble_eq_true rfl) dX1_claim_10 ⟨Nat.zero_le _, Nat.zero_le _⟩ (fun r h2 => ?_)
    refine gx_if_neP (tgt := 18) hx hb dX1_claim_13 (by decide) h2 (fun c2 => ?_) (fun c2 => ?_)
    · obtain ⟨b, hb0, rfl⟩ := c2
      have h1o : 0 < 2 ^ o := Nat.two_pow_pos o
      refine lv_iload_n hx hb dX1_claim_18 rfl (lv_at hl 2 rfl) ?_
      refine lv_iconst (v := (nI 1)) hx hb dX1_claim_19 (by decide) ?_
      refine lv_iload_n hx hb dX1_claim_20 rfl (lv_at hl 1 rfl) ?_
      refine gx_ishl (n := 2 ^ o) hx hb dX1_claim_21 (by omega) (Nat.one_mul _) (gp_lt (by omega)) ?_
      refine lv_iconst (v := (nI 1)) hx hb dX1_claim_22 (by decide) ?_
      refine gx_isub (n := (2 ^ o) - 1) hx hb dX1_claim_23 (by omega) ?_
      refine gx_iand (n := b % 2 ^ o) hx hb dX1_claim_24 o (by omega) (by omega) (by omega) rfl ?_
      refine gx_if_eqN (tgt := 30) hx hb dX1_claim_25 (by decide) (by have := Nat.mod_le b (2 ^ o); omega) (fun c3 => ?_) (fun c3 => ?_)
      · refine lv_aload_n hx hb dX1_claim_30 rfl (lv_at hl 0 rfl) ?_
        refine lv_iload_n hx hb dX1_claim_31 rfl (lv_at hl 2 rfl) ?_
        refine lv_iconst (v := (nI 5)) hx hb dX1_claim_32 (by decide) ?_
        refine gx_ishr (n := b / 32) hx hb dX1_claim_33 (by omega) (by decide) rfl ?_
        refine lv_iload_n hx hb dX1_claim_34 rfl (lv_at hl 1 rfl) ?_
        refine lv_iload_n hx hb dX1_claim_35 rfl (lv_at hl 2 rfl) ?_
        refine lv_bipush (v := (nI 31)) hx hb dX1_claim_36 (by decide) ?_
        refine gx_iand (n := b % 32) hx hb dX1_claim_38 5 (by omega) rfl (by decide) rfl ?_
        refine gw_cS (As := [.int (nI (b / 32)), .int (nI o), .int (nI (b % 32))]) (rest := []) (ci := 0) (q0 := 0) ⟨hx, hb, hml, hown, hts⟩ (mX1_isFreeRun l D h hf ho cI cB G ec fd fm oa (b / 32) o (b % 32) (by omega) ho6 (by omega)) (cwV 3 hts (lw_V q80 q82 qs6 q20 q83) rfl rfl rfl (by decide +kernel) ⟨Nat.le_of_ble_eq_true rfl, Nat.le_of_ble_eq_true rfl⟩) hK hP rfl rfl rfl hl.1 rfl (Nat.le_of_ble_eq_true rfl) dX1_claim_39 ⟨Nat.zero_le _, Nat.zero_le _⟩ (fun r h3 => ?_)
        refine gx_if_neP (tgt := 48) hx hb dX1_claim_42 (by decide) h3 (fun c4 => ?_) (fun c4 => ?_)
        · obtain ⟨J0, hJ0, hoJ, hF⟩ := id c4
          refine lv_aload_n hx hb dX1_claim_48 rfl (lv_at hl 0 rfl) ?_
          refine lv_iload_n hx hb dX1_claim_49 rfl (lv_at hl 2 rfl) ?_
          refine lv_bipush (v := (nI 31)) hx hb dX1_claim_50 (by decide) ?_
          refine gx_iand (n := b % 32) hx hb dX1_claim_52 5 (by omega) rfl (by decide) rfl ?_
          refine va_put (D := D) (ci := 0) (v := .int (nI (b % 32))) (ty := .int) (C := RX1) (T := TX1) (N := 5) hx hb hts in_X1 tyX1 tyX1_ok nmX1 hown hK hP hD hS 0 rfl rfl 4 (by decide) (hts _ q34) (fun _ h9 => h9) rfl (by decide +kernel) rfl rfl (Nat.le_of_ble_eq_true rfl) dX1_claim_53 (fun H locs hP hD hS => ?_)
          have hP : va_P D vwCl (gX h hf ho cI cB G ec (nI (b % 32)) fm oa) H := hP
          have hD : va_D A (gX h hf ho cI cB G ec (nI (b % 32)) fm oa) := hD
          refine lv_aload_n hx hb dX1_claim_56 rfl (lv_at hl 0 rfl) ?_
          refine lv_iload_n hx hb dX1_claim_57 rfl (lv_at hl 2 rfl) ?_
          refine lv_iconst (v := (nI 5)) hx hb dX1_claim_58 (by decide) ?_
          refine gx_ishr (n := b / 32) hx hb dX1_claim_59 (by omega) (by decide) rfl ?_
          refine lv_iload_n hx hb dX1_claim_60 rfl (lv_at hl 1 rfl) ?_
          refine gw_cI (wr := []) (As := [.int (nI (b / 32)), .int (nI o)]) (rest := []) (ci := 0) (q0 := 0) ⟨hx, hb, hml, hown, hts⟩ (mX1_occupy l D h hf ho cI cB G ec (nI (b % 32)) fm oa _ (b / 32) o (b % 32) J0 rfl (by omega) ho6 (by omega) hJ0 hF) (cwV 2 hts (lw_V q64 q66 qs3 q20 q67) rfl rfl rfl (by decide +kernel) ⟨Nat.le_of_ble_eq_true rfl, Nat.le_of_ble_eq_true rfl⟩) hK hP hD hS hA [0, 1, 2] [] rfl (by decide) rfl rfl (by decide) (by decide) rfl rfl rfl hl.1 rfl (Nat.le_of_ble_eq_true rfl) dX1_claim_61 ⟨Nat.zero_le _, Nat.zero_le _⟩ (fun r u H locs h6 hP hD hS => ?_)
          obtain ⟨u1, u2, u3, u4⟩ := u
          have hP : va_P D vwCl (gX h hf ho cI cB G u1 u2 u3 u4) H := hP
          have hD : va_D A (gX h hf ho cI cB G u1 u2 u3 u4) := hD
          exact W.iret (v := r) hx hb hr (fun t9 ht9 hW9 => ⟨⟨_, (u1, u2, u3, u4), rfl, Or.inr ⟨o, b, ho6, hb0, rfl, rfl, Or.inr (Or.inr ⟨c3, c4, h6⟩)⟩, by rw [ht9]; exact hP, va_K.moved hW9.alike hK, hD⟩, hS.F ht9⟩) hS.2.2 dX1_claim_64
        · refine lv_bipush (v := (-2)) hx hb dX1_claim_45 (by decide) ?_
          exact W.iret (v := (-2)) hx hb hr (fun t9 ht9 hW9 => ⟨⟨_, (ec, fd, fm, oa), rfl, Or.inr ⟨o, b, ho6, hb0, rfl, rfl, Or.inr (Or.inl ⟨c3, c4, rfl, _, rfl⟩)⟩, by rw [ht9]; exact hP, va_K.moved hW9.alike hK, hD⟩, hS.F ht9⟩) hS.2.2 dX1_claim_47
      · refine lv_iconst (v := (-1)) hx hb dX1_claim_28 (by decide) ?_
        exact W.iret (v := (-1)) hx hb hr (fun t9 ht9 hW9 => ⟨⟨_, (ec, fd, fm, oa), rfl, Or.inr ⟨o, b, ho6, hb0, rfl, rfl, Or.inl ⟨c3, rfl, _, rfl⟩⟩, by rw [ht9]; exact hP, va_K.moved hW9.alike hK, hD⟩, hS.F ht9⟩) hS.2.2 dX1_claim_29
    · refine lv_iconst (v := (-1)) hx hb dX1_claim_16 (by decide) ?_
      exact W.iret (v := (-1)) hx hb hr (fun t9 ht9 hW9 => ⟨⟨_, (ec, fd, fm, oa), rfl, Or.inl ⟨fun q => c2 q.2, rfl, _, rfl⟩, by rw [ht9]; exact hP, va_K.moved hW9.alike hK, hD⟩, hS.F ht9⟩) hS.2.2 dX1_claim_17
set_option maxHeartbeats 4000000 in
set_option maxRecDepth 100000 in
theorem mX1_release (l : Launch) (D : va_G) (h hf ho : Nat) (cI cB : ClassId) (G : Nat) (ec fd : Int32) (fm oa : Nat → Int32) (sz : Nat) (hG : G ≤ 4) (hw : wfO G oa) (x : Int32) : Met l yX1_release (ws_ yX1_release cX1_release 3 (some .int)) ({ frames := 2, cells := 0, slots := 0, locals := 42 } : Room) (gw_Pc D (gX h hf ho cI cB G ec fd fm oa) (tX cI cB) sz [.ref h, .int x]) (gw_Q D (tX cI cB) (fun u : (Int32 × Int32 × (Nat → Int32) × (Nat → Int32)) => gX h hf ho cI cB G u.1 u.2.1 u.2.2.1 u.2.2.2) (fun (r : Int32) (u : (Int32 × Int32 × (Nat → Int32) × (Nat → Int32))) => (¬ okE G oa x ∧ r = -1 ∧ ∃ fd', u = (ec, fd', fm, oa)) ∨ (∃ b, b < 32 * G ∧ x = nI b ∧ ¬ oa b < 0 ∧ ax_rel fm oa ec b r u)) (va_A (gX h hf ho cI cB G ec fd fm oa) sz)) 0 0 (va_A (gX h hf ho cI cB G ec fd fm oa) sz) := by
  refine gw_ofQ (gw_Q D (tX cI cB) (fun u : (Int32 × Int32 × (Nat → Int32) × (Nat → Int32)) => gX h hf ho cI cB G u.1 u.2.1 u.2.2.1 u.2.2.2) (fun (r : Int32) (u : (Int32 × Int32 × (Nat → Int32) × (Nat → Int32))) => (¬ okE G oa x ∧ r = -1 ∧ ∃ fd', u = (ec, fd', fm, oa)) ∨ (∃ b, b < 32 * G ∧ x = nI b ∧ ¬ oa b < 0 ∧ ax_rel fm oa ec b r u))) (by decide) (Nat.le_of_ble_eq_true rfl) ?_
  intro p e s m below meth c ls A hx hb hr hml hown hts hlocks _ hP hK hD hS hA hl
  have hl : lv_has ls 3 [(0, .ref h), (1, .int x)] := hl
  have hown : s.vm.findClass RX1 = some m.cls := hown
  have hP : va_P D vwCl (gX h hf ho cI cB G ec fd fm oa) s.heap := hP
  have hD : va_D A (gX h hf ho cI cB G ec fd fm oa) := hD
  refine lv_aload_n hx hb dX1_release_0 rfl (lv_at hl 0 rfl) ?_
  refine lv_iload_n hx hb dX1_release_1 rfl (lv_at hl 1 rfl) ?_
  refine gw_cS (As := [.int x]) (rest := []) (ci := 0) (q0 := 0) ⟨hx, hb, hml, hown, hts⟩ (mX1_isExtent l D h hf ho cI cB G ec fd fm oa hG x) (cwV 1 hts (lw_V q88 q90 qs7 q20 q91) rfl rfl rfl (by decide +kernel) ⟨Nat.le_of_ble_eq_true rfl, Nat.le_of_ble_eq_true rfl⟩) hK hP rfl rfl rfl hl.1 rfl (Nat.le_of_ble_eq_true rfl) dX1_release_2 ⟨Nat.zero_le _, Nat.zero_le _⟩ (fun r h1 => ?_)
  refine gx_if_neP (tgt := 10) hx hb dX1_release_5 (by decide) h1 (fun c1 => ?_) (fun c1 => ?_)
  · obtain ⟨b, hb0, rfl, hc⟩ := c1
    obtain ⟨k, hk, ek, hal⟩ := wfO_at hw hb0 hc
    refine lv_aload_n hx hb dX1_release_10 rfl (lv_at hl 0 rfl) ?_
    refine va_get (D := D) (ci := 0) (v := .ref ho) (C := RX1) (T := TX1) (N := 5) hx hb hts in_X1 hown hK hP 0 rfl rfl 2 (by decide) (hts _ q32) (fun _ h9 => h9) rfl dX1_release_11 ?_
    refine lv_iload_n hx hb dX1_release_14 rfl (lv_at hl 1 rfl) ?_
    refine gx_bald hx hb hK hP 2 1 rfl rfl (by omega) (by decide) dX1_release_15 ?_
    refine gx_top (y := (nI k)) (ek) ?_
    refine lv_istore_n (lv' := [(2, .int (nI k)), (0, .ref h), (1, .int (nI b))]) hx hb dX1_release_16 rfl hl (by decide) rfl (fun ls hl => ?_)
    refine lv_aload_n hx hb dX1_release_17 rfl (lv_at hl 1 rfl) ?_
    refine lv_iload_n hx hb dX1_release_18 rfl (lv_at hl 2 rfl) ?_
    refine lv_iconst (v := (nI 5)) hx hb dX1_release_19 (by decide) ?_
    refine gx_ishr (n := b / 32) hx hb dX1_release_20 (by omega) (by decide) rfl ?_
    refine lv_iload_n hx hb dX1_release_21 rfl (lv_at hl 0 rfl) ?_
    refine lv_iload_n hx hb dX1_release_22 rfl (lv_at hl 2 rfl) ?_
    refine lv_bipush (v := (nI 31)) hx hb dX1_release_23 (by decide) ?_
    refine gx_iand (n := b % 32) hx hb dX1_release_25 5 (by omega) rfl (by decide) rfl ?_
    refine gw_cV (wr := []) (As := [.int (nI (b / 32)), .int (nI k), .int (nI (b % 32))]) (rest := []) (ci := 0) (q0 := 0) ⟨hx, hb, hml, hown, hts⟩ (mX1_giveBack l D h hf ho cI cB G ec fd fm oa _ (b / 32) k (b % 32) (by omega) hk (by omega)) (cwV 3 hts (lw_V q92 q94 qs8 q20 q95) rfl rfl rfl (by decide +kernel) ⟨Nat.le_of_ble_eq_true rfl, Nat.le_of_ble_eq_true rfl⟩) hK hP hD hS hA [0, 1, 2] [] rfl (by decide) rfl rfl (by decide) (by decide) rfl rfl rfl hl.1 rfl (Nat.le_of_ble_eq_true rfl) dX1_release_26 ⟨Nat.zero_le _, Nat.zero_le _⟩ (fun u H locs h2 hP hD hS => ?_)
    obtain ⟨J, fm1, hgj, hgb, rfl⟩ := h2
    have hP : va_P D vwCl (gX h hf ho cI cB G ec fd fm1 oa) H := hP
    have hD : va_D A (gX h hf ho cI cB G ec fd fm1 oa) := hD
    refine lv_aload_n hx hb dX1_release_29 rfl (lv_at hl 1 rfl) ?_
    refine va_get (D := D) (ci := 0) (v := .ref ho) (C := RX1) (T := TX1) (N := 5) hx hb hts in_X1 hown hK hP 0 rfl rfl 2 (by decide) (hts _ q32) (fun _ h9 => h9) rfl dX1_release_30 ?_
    refine lv_iload_n hx hb dX1_release_33 rfl (lv_at hl 2 rfl) ?_
    refine lv_iconst (v := (-1)) hx hb dX1_release_34 (by decide) ?_
    refine gx_bast hx hb hK hP hD hS 2 1 rfl rfl (by omega) (by decide) (by decide) dX1_release_35 (fun H locs hP hD hS => ?_)
    have hP : va_P D vwCl (gX h hf ho cI cB G ec fd fm1 ((upd oa b ((-1))))) H := hP
    have hD : va_D A (gX h hf ho cI cB G ec fd fm1 ((upd oa b ((-1))))) := hD
    refine lv_aload_n hx hb dX1_release_36 rfl (lv_at hl 1 rfl) ?_
    refine lv_dup hx hb dX1_release_37 rfl ?_
    refine va_get (D := D) (ci := 0) (v := .int ec) (C := RX1) (T := TX1) (N := 5) hx hb hts in_X1 hown hK hP 0 rfl rfl 3 (by decide) (hts _ q33) (fun _ h9 => h9) rfl dX1_release_38 ?_
    refine lv_iconst (v := (nI 1)) hx hb dX1_release_41 (by decide) ?_
    refine lv_isub hx hb dX1_release_42 ?_
    refine va_put (D := D) (ci := 0) (v := .int (ec - (nI 1))) (ty := .int) (C := RX1) (T := TX1) (N := 5) hx hb hts in_X1 tyX1 tyX1_ok nmX1 hown hK hP hD hS 0 rfl rfl 3 (by decide) (hts _ q33) (fun _ h9 => h9) rfl (by decide +kernel) rfl rfl (Nat.le_of_ble_eq_true rfl) dX1_release_43 (fun H locs hP hD hS => ?_)
    have hP : va_P D vwCl (gX h hf ho cI cB G ((ec - (nI 1))) fd fm1 ((upd oa b ((-1))))) H := hP
    have hD : va_D A (gX h hf ho cI cB G ((ec - (nI 1))) fd fm1 ((upd oa b ((-1))))) := hD
    refine lv_iload_n hx hb dX1_release_46 rfl (lv_at hl 0 rfl) ?_
    exact W.iret (v := (nI k)) hx hb hr (fun t9 ht9 hW9 => ⟨⟨_, ((ec - (nI 1)), fd, fm1, (upd oa b ((-1)))), rfl, Or.inr ⟨b, hb0, rfl, hc, k, hk, ek, rfl, J, fm1, hgj, hgb, _, rfl⟩, by rw [ht9]; exact hP, va_K.moved hW9.alike hK, hD⟩, hS.F ht9⟩) hS.2.2 dX1_release_47
  · refine lv_iconst (v := (-1)) hx hb dX1_release_8 (by decide) ?_
    exact W.iret (v := (-1)) hx hb hr (fun t9 ht9 hW9 => ⟨⟨_, (ec, fd, fm, oa), rfl, Or.inl ⟨c1, rfl, _, rfl⟩, by rw [ht9]; exact hP, va_K.moved hW9.alike hK, hD⟩, hS.F ht9⟩) hS.2.2 dX1_release_9
set_option maxHeartbeats 4000000 in
set_option maxRecDepth 100000 in
theorem mX1_grow (l : Launch) (D : va_G) (h hf ho : Nat) (cI cB : ClassId) (G : Nat) (ec fd : Int32) (fm oa : Nat → Int32) (sz : Nat) (hG : G ≤ 4) (hw : wfO G oa) (x : Int32) : Met l yX1_grow (ws_ yX1_grow cX1_grow 4 (some .int)) ({ frames := 2, cells := 0, slots := 0, locals := 48 } : Room) (gw_Pc D (gX h hf ho cI cB G ec fd fm oa) (tX cI cB) sz [.ref h, .int x]) (gw_Q D (tX cI cB) (fun u : (Int32 × Int32 × (Nat → Int32) × (Nat → Int32)) => gX h hf ho cI cB G u.1 u.2.1 u.2.2.1 u.2.2.2) (fun (r : Int32) (u : (Int32 × Int32 × (Nat → Int32) × (Nat → Int32))) => (¬ okE G oa x ∧ r = -1 ∧ ∃ fd', u = (ec, fd', fm, oa)) ∨ (∃ b, b < 32 * G ∧ x = nI b ∧ ¬ oa b < 0 ∧ ax_grow fm oa ec b r u)) (va_A (gX h hf ho cI cB G ec fd fm oa) sz)) 0 0 (va_A (gX h hf ho cI cB G ec fd fm oa) sz) := by
  refine gw_ofQ (gw_Q D (tX cI cB) (fun u : (Int32 × Int32 × (Nat → Int32) × (Nat → Int32)) => gX h hf ho cI cB G u.1 u.2.1 u.2.2.1 u.2.2.2) (fun (r : Int32) (u : (Int32 × Int32 × (Nat → Int32) × (Nat → Int32))) => (¬ okE G oa x ∧ r = -1 ∧ ∃ fd', u = (ec, fd', fm, oa)) ∨ (∃ b, b < 32 * G ∧ x = nI b ∧ ¬ oa b < 0 ∧ ax_grow fm oa ec b r u))) (by decide) (Nat.le_of_ble_eq_true rfl) ?_
  intro p e s m below meth c ls A hx hb hr hml hown hts hlocks _ hP hK hD hS hA hl
  have hl : lv_has ls 4 [(0, .ref h), (1, .int x)] := hl
  have hown : s.vm.findClass RX1 = some m.cls := hown
  have hP : va_P D vwCl (gX h hf ho cI cB G ec fd fm oa) s.heap := hP
  have hD : va_D A (gX h hf ho cI cB G ec fd fm oa) := hD
  refine lv_aload_n hx hb dX1_grow_0 rfl (lv_at hl 0 rfl) ?_
  refine lv_iload_n hx hb dX1_grow_1 rfl (lv_at hl 1 rfl) ?_
  refine gw_cS (As := [.int x]) (rest := []) (ci := 0) (q0 := 0) ⟨hx, hb, hml, hown, hts⟩ (mX1_isExtent l D h hf ho cI cB G ec fd fm oa hG x) (cwV 1 hts (lw_V q88 q90 qs7 q20 q91) rfl rfl rfl (by decide +kernel) ⟨Nat.le_of_ble_eq_true rfl, Nat.le_of_ble_eq_true rfl⟩) hK hP rfl rfl rfl hl.1 rfl (Nat.le_of_ble_eq_true rfl) dX1_grow_2 ⟨Nat.zero_le _, Nat.zero_le _⟩ (fun r h1 => ?_)
  refine gx_if_neP (tgt := 10) hx hb dX1_grow_5 (by decide) h1 (fun c1 => ?_) (fun c1 => ?_)
  · obtain ⟨b, hb0, rfl, hc⟩ := c1
    obtain ⟨k, hk, ek, hal⟩ := wfO_at hw hb0 hc
    refine lv_aload_n hx hb dX1_grow_10 rfl (lv_at hl 0 rfl) ?_
    refine va_get (D := D) (ci := 0) (v := .ref ho) (C := RX1) (T := TX1) (N := 5) hx hb hts in_X1 hown hK hP 0 rfl rfl 2 (by decide) (hts _ q32) (fun _ h9 => h9) rfl dX1_grow_11 ?_
    refine lv_iload_n hx hb dX1_grow_14 rfl (lv_at hl 1 rfl) ?_
    refine gx_bald hx hb hK hP 2 1 rfl rfl (by omega) (by decide) dX1_grow_15 ?_
    refine gx_top (y := (nI k)) (ek) ?_
    refine lv_istore_n (lv' := [(2, .int (nI k)), (0, .ref h), (1, .int (nI b))]) hx hb dX1_grow_16 rfl hl (by decide) rfl (fun ls hl => ?_)
    refine lv_iload_n hx hb dX1_grow_17 rfl (lv_at hl 0 rfl) ?_
    refine lv_iconst (v := (nI 5)) hx hb dX1_grow_18 (by decide) ?_
    refine gx_icmp_eq (tgt := 30) hx hb dX1_grow_19 (by decide) (by omega) (by omega) (fun c2 => ?_) (fun c2 => ?_)
    · refine lv_bipush (v := (-2)) hx hb dX1_grow_30 (by decide) ?_
      exact W.iret (v := (-2)) hx hb hr (fun t9 ht9 hW9 => ⟨⟨_, (ec, fd, fm, oa), rfl, Or.inr ⟨b, hb0, rfl, hc, k, hk, ek, Or.inl ⟨Or.inl c2, rfl, _, rfl⟩⟩, by rw [ht9]; exact hP, va_K.moved hW9.alike hK, hD⟩, hS.F ht9⟩) hS.2.2 dX1_grow_32
    · have hkb := gp_div (j := k) hb0
      refine lv_iload_n hx hb dX1_grow_22 rfl (lv_at hl 2 rfl) ?_
      refine lv_iload_n hx hb dX1_grow_23 rfl (lv_at hl 0 rfl) ?_
      refine gx_ishr (n := b / 2 ^ k) hx hb dX1_grow_24 (by omega) (by omega) rfl ?_
      refine lv_iconst (v := (nI 1)) hx hb dX1_grow_25 (by decide) ?_
      refine gx_iand (n := (b / 2 ^ k) % 2) hx hb dX1_grow_26 1 (by omega) rfl (by decide) rfl ?_
      refine gx_if_eqN (tgt := 33) hx hb dX1_grow_27 (by decide) (by omega) (fun c3 => ?_) (fun c3 => ?_)
      · have hh := gp_half (show k < 5 by omega) hal c3
        refine lv_iload_n hx hb dX1_grow_33 rfl (lv_at hl 2 rfl) ?_
        refine lv_bipush (v := (nI 31)) hx hb dX1_grow_34 (by decide) ?_
        refine gx_iand (n := b % 32) hx hb dX1_grow_36 5 (by omega) rfl (by decide) rfl ?_
        refine lv_iconst (v := (nI 1)) hx hb dX1_grow_37 (by decide) ?_
        refine lv_iload_n hx hb dX1_grow_38 rfl (lv_at hl 0 rfl) ?_
        refine gx_ishl (n := 2 ^ k) hx hb dX1_grow_39 (by omega) (Nat.one_mul _) (gp_lt (by omega)) ?_
        refine gx_iadd (n := b % 32 + 2 ^ k) hx hb dX1_grow_40 rfl ?_
        refine lv_istore_n (lv' := [(3, .int (nI (b % 32 + 2 ^ k))), (2, .int (nI k)), (0, .ref h), (1, .int (nI b))]) hx hb dX1_grow_41 rfl hl (by decide) rfl (fun ls hl => ?_)
        refine lv_aload_n hx hb dX1_grow_42 rfl (lv_at hl 2 rfl) ?_
        refine lv_iload_n hx hb dX1_grow_43 rfl (lv_at hl 3 rfl) ?_
        refine lv_iconst (v := (nI 5)) hx hb dX1_grow_44 (by decide) ?_
        refine gx_ishr (n := b / 32) hx hb dX1_grow_45 (by omega) (by decide) rfl ?_
        refine lv_iload_n hx hb dX1_grow_46 rfl (lv_at hl 1 rfl) ?_
        refine lv_iload_n hx hb dX1_grow_47 rfl (lv_at hl 0 rfl) ?_
        refine gw_cS (As := [.int (nI (b / 32)), .int (nI k), .int (nI (b % 32 + 2 ^ k))]) (rest := []) (ci := 0) (q0 := 0) ⟨hx, hb, hml, hown, hts⟩ (mX1_isFreeRun l D h hf ho cI cB G ec fd fm oa (b / 32) k (b % 32 + 2 ^ k) (by omega) hk hh) (cwV 3 hts (lw_V q80 q82 qs6 q20 q83) rfl rfl rfl (by decide +kernel) ⟨Nat.le_of_ble_eq_true rfl, Nat.le_of_ble_eq_true rfl⟩) hK hP rfl rfl rfl hl.1 rfl (Nat.le_of_ble_eq_true rfl) dX1_grow_48 ⟨Nat.zero_le _, Nat.zero_le _⟩ (fun r h2 => ?_)
        refine gx_if_neP (tgt := 57) hx hb dX1_grow_51 (by decide) h2 (fun c4 => ?_) (fun c4 => ?_)
        · obtain ⟨J, hJ, hkJ, hF⟩ := c4
          refine lv_aload_n hx hb dX1_grow_57 rfl (lv_at hl 2 rfl) ?_
          refine lv_iload_n hx hb dX1_grow_58 rfl (lv_at hl 3 rfl) ?_
          refine lv_iconst (v := (nI 5)) hx hb dX1_grow_59 (by decide) ?_
          refine gx_ishr (n := b / 32) hx hb dX1_grow_60 (by omega) (by decide) rfl ?_
          refine lv_iload_n hx hb dX1_grow_61 rfl (lv_at hl 1 rfl) ?_
          refine lv_iload_n hx hb dX1_grow_62 rfl (lv_at hl 0 rfl) ?_
          refine gw_cV (wr := []) (As := [.int (nI (b / 32)), .int (nI k), .int (nI (b % 32 + 2 ^ k))]) (rest := []) (ci := 0) (q0 := 0) ⟨hx, hb, hml, hown, hts⟩ (mX1_carve l D h hf ho cI cB G ec fd fm oa _ (b / 32) k (b % 32 + 2 ^ k) J (by omega) hk hh hJ hF) (cwV 3 hts (lw_V q68 q70 qs4 q20 q71) rfl rfl rfl (by decide +kernel) ⟨Nat.le_of_ble_eq_true rfl, Nat.le_of_ble_eq_true rfl⟩) hK hP hD hS hA [0, 1, 2] [] rfl (by decide) rfl rfl (by decide) (by decide) rfl rfl rfl hl.1 rfl (Nat.le_of_ble_eq_true rfl) dX1_grow_63 ⟨Nat.zero_le _, Nat.zero_le _⟩ (fun u H locs h3 hP hD hS => ?_)
          obtain ⟨fm1, hcv, rfl⟩ := h3
          have hP : va_P D vwCl (gX h hf ho cI cB G ec fd fm1 oa) H := hP
          have hD : va_D A (gX h hf ho cI cB G ec fd fm1 oa) := hD
          refine lv_aload_n hx hb dX1_grow_66 rfl (lv_at hl 2 rfl) ?_
          refine va_get (D := D) (ci := 0) (v := .ref ho) (C := RX1) (T := TX1) (N := 5) hx hb hts in_X1 hown hK hP 0 rfl rfl 2 (by decide) (hts _ q32) (fun _ h9 => h9) rfl dX1_grow_67 ?_
          refine lv_iload_n hx hb dX1_grow_70 rfl (lv_at hl 3 rfl) ?_
          refine lv_iload_n hx hb dX1_grow_71 rfl (lv_at hl 1 rfl) ?_
          refine lv_iconst (v := (nI 1)) hx hb dX1_grow_72 (by decide) ?_
          refine gx_iadd (n := k + 1) hx hb dX1_grow_73 rfl ?_
          refine gx_i2b hx hb dX1_grow_74 (by omega) ?_
          refine gx_bast hx hb hK hP hD hS 2 1 rfl rfl (by omega) (by decide) (fa_byte_small (by omega)) dX1_grow_75 (fun H locs hP hD hS => ?_)
          have hP : va_P D vwCl (gX h hf ho cI cB G ec fd fm1 ((upd oa b ((nI (k + 1)))))) H := hP
          have hD : va_D A (gX h hf ho cI cB G ec fd fm1 ((upd oa b ((nI (k + 1)))))) := hD
          refine lv_iload_n hx hb dX1_grow_76 rfl (lv_at hl 1 rfl) ?_
          refine lv_iconst (v := (nI 1)) hx hb dX1_grow_77 (by decide) ?_
          refine gx_iadd (n := k + 1) hx hb dX1_grow_78 rfl ?_
          exact W.iret (v := (nI (k + 1))) hx hb hr (fun t9 ht9 hW9 => ⟨⟨_, (ec, fd, fm1, (upd oa b ((nI (k + 1))))), rfl, Or.inr ⟨b, hb0, rfl, hc, k, hk, ek, Or.inr ⟨by omega, c3, rfl, J, fm1, hJ, hkJ, hF, hcv, _, rfl⟩⟩, by rw [ht9]; exact hP, va_K.moved hW9.alike hK, hD⟩, hS.F ht9⟩) hS.2.2 dX1_grow_79
        · refine lv_bipush (v := (-2)) hx hb dX1_grow_54 (by decide) ?_
          exact W.iret (v := (-2)) hx hb hr (fun t9 ht9 hW9 => ⟨⟨_, (ec, fd, fm, oa), rfl, Or.inr ⟨b, hb0, rfl, hc, k, hk, ek, Or.inl ⟨Or.inr (Or.inr c4), rfl, _, rfl⟩⟩, by rw [ht9]; exact hP, va_K.moved hW9.alike hK, hD⟩, hS.F ht9⟩) hS.2.2 dX1_grow_56
      · refine lv_bipush (v := (-2)) hx hb dX1_grow_30 (by decide) ?_
        exact W.iret (v := (-2)) hx hb hr (fun t9 ht9 hW9 => ⟨⟨_, (ec, fd, fm, oa), rfl, Or.inr ⟨b, hb0, rfl, hc, k, hk, ek, Or.inl ⟨Or.inr (Or.inl c3), rfl, _, rfl⟩⟩, by rw [ht9]; exact hP, va_K.moved hW9.alike hK, hD⟩, hS.F ht9⟩) hS.2.2 dX1_grow_32
  · refine lv_iconst (v := (-1)) hx hb dX1_grow_8 (by decide) ?_
    exact W.iret (v := (-1)) hx hb hr (fun t9 ht9 hW9 => ⟨⟨_, (ec, fd, fm, oa), rfl, Or.inl ⟨c1, rfl, _, rfl⟩, by rw [ht9]; exact hP, va_K.moved hW9.alike hK, hD⟩, hS.F ht9⟩) hS.2.2 dX1_grow_9
set_option maxHeartbeats 4000000 in
set_option maxRecDepth 100000 in
theorem mX1_halve (l : Launch) (D : va_G) (h hf ho : Nat) (cI cB : ClassId) (G : Nat) (ec fd : Int32) (fm oa : Nat → Int32) (sz : Nat) (hG : G ≤ 4) (hw : wfO G oa) (x : Int32) : Met l yX1_halve (ws_ yX1_halve cX1_halve 3 (some .int)) ({ frames := 2, cells := 0, slots := 0, locals := 42 } : Room) (gw_Pc D (gX h hf ho cI cB G ec fd fm oa) (tX cI cB) sz [.ref h, .int x]) (gw_Q D (tX cI cB) (fun u : (Int32 × Int32 × (Nat → Int32) × (Nat → Int32)) => gX h hf ho cI cB G u.1 u.2.1 u.2.2.1 u.2.2.2) (fun (r : Int32) (u : (Int32 × Int32 × (Nat → Int32) × (Nat → Int32))) => (¬ okE G oa x ∧ r = -1 ∧ ∃ fd', u = (ec, fd', fm, oa)) ∨ (∃ b, b < 32 * G ∧ x = nI b ∧ ¬ oa b < 0 ∧ ax_halve fm oa ec b r u)) (va_A (gX h hf ho cI cB G ec fd fm oa) sz)) 0 0 (va_A (gX h hf ho cI cB G ec fd fm oa) sz) := by
  refine gw_ofQ (gw_Q D (tX cI cB) (fun u : (Int32 × Int32 × (Nat → Int32) × (Nat → Int32)) => gX h hf ho cI cB G u.1 u.2.1 u.2.2.1 u.2.2.2) (fun (r : Int32) (u : (Int32 × Int32 × (Nat → Int32) × (Nat → Int32))) => (¬ okE G oa x ∧ r = -1 ∧ ∃ fd', u = (ec, fd', fm, oa)) ∨ (∃ b, b < 32 * G ∧ x = nI b ∧ ¬ oa b < 0 ∧ ax_halve fm oa ec b r u))) (by decide) (Nat.le_of_ble_eq_true rfl) ?_
  intro p e s m below meth c ls A hx hb hr hml hown hts hlocks _ hP hK hD hS hA hl
  have hl : lv_has ls 3 [(0, .ref h), (1, .int x)] := hl
  have hown : s.vm.findClass RX1 = some m.cls := hown
  have hP : va_P D vwCl (gX h hf ho cI cB G ec fd fm oa) s.heap := hP
  have hD : va_D A (gX h hf ho cI cB G ec fd fm oa) := hD
  refine lv_aload_n hx hb dX1_halve_0 rfl (lv_at hl 0 rfl) ?_
  refine lv_iload_n hx hb dX1_halve_1 rfl (lv_at hl 1 rfl) ?_
  refine gw_cS (As := [.int x]) (rest := []) (ci := 0) (q0 := 0) ⟨hx, hb, hml, hown, hts⟩ (mX1_isExtent l D h hf ho cI cB G ec fd fm oa hG x) (cwV 1 hts (lw_V q88 q90 qs7 q20 q91) rfl rfl rfl (by decide +kernel) ⟨Nat.le_of_ble_eq_true rfl, Nat.le_of_ble_eq_true rfl⟩) hK hP rfl rfl rfl hl.1 rfl (Nat.le_of_ble_eq_true rfl) dX1_halve_2 ⟨Nat.zero_le _, Nat.zero_le _⟩ (fun r h1 => ?_)
  refine gx_if_neP (tgt := 10) hx hb dX1_halve_5 (by decide) h1 (fun c1 => ?_) (fun c1 => ?_)
  · obtain ⟨b, hb0, rfl, hc⟩ := c1
    obtain ⟨k, hk, ek, hal⟩ := wfO_at hw hb0 hc
    refine lv_aload_n hx hb dX1_halve_10 rfl (lv_at hl 0 rfl) ?_
    refine va_get (D := D) (ci := 0) (v := .ref ho) (C := RX1) (T := TX1) (N := 5) hx hb hts in_X1 hown hK hP 0 rfl rfl 2 (by decide) (hts _ q32) (fun _ h9 => h9) rfl dX1_halve_11 ?_
    refine lv_iload_n hx hb dX1_halve_14 rfl (lv_at hl 1 rfl) ?_
    refine gx_bald hx hb hK hP 2 1 rfl rfl (by omega) (by decide) dX1_halve_15 ?_
    refine gx_top (y := (nI k)) (ek) ?_
    rcases k with _ | k
    · refine lv_iconst (v := (nI 1)) hx hb dX1_halve_16 (by decide) ?_
      refine lv_isub hx hb dX1_halve_17 ?_
      refine gx_top (y := (-1)) (by decide) ?_
      refine lv_istore_n (lv' := [(2, .int (-1)), (0, .ref h), (1, .int (nI b))]) hx hb dX1_halve_18 rfl hl (by decide) rfl (fun ls hl => ?_)
      refine lv_iload_n hx hb dX1_halve_19 rfl (lv_at hl 0 rfl) ?_
      refine lv_if_ge (tgt := 26) hx hb dX1_halve_20 (by decide)  (fun c2 => ?_) (fun c2 => ?_)
      · exact absurd c2 (by decide)
      · refine lv_bipush (v := (-2)) hx hb dX1_halve_23 (by decide) ?_
        exact W.iret (v := (-2)) hx hb hr (fun t9 ht9 hW9 => ⟨⟨_, (ec, fd, fm, oa), rfl, Or.inr ⟨b, hb0, rfl, hc, 0, hk, ek, Or.inl ⟨rfl, rfl, _, rfl⟩⟩, by rw [ht9]; exact hP, va_K.moved hW9.alike hK, hD⟩, hS.F ht9⟩) hS.2.2 dX1_halve_25
    · refine lv_iconst (v := (nI 1)) hx hb dX1_halve_16 (by decide) ?_
      refine gx_isub (n := k) hx hb dX1_halve_17 rfl ?_
      refine lv_istore_n (lv' := [(2, .int (nI k)), (0, .ref h), (1, .int (nI b))]) hx hb dX1_halve_18 rfl hl (by decide) rfl (fun ls hl => ?_)
      refine lv_iload_n hx hb dX1_halve_19 rfl (lv_at hl 0 rfl) ?_
      refine lv_if_ge (tgt := 26) hx hb dX1_halve_20 (by decide)  (fun c2 => ?_) (fun c2 => ?_)
      · have hh := gp_half2 hk hal
        refine lv_aload_n hx hb dX1_halve_26 rfl (lv_at hl 1 rfl) ?_
        refine lv_iload_n hx hb dX1_halve_27 rfl (lv_at hl 2 rfl) ?_
        refine lv_iconst (v := (nI 5)) hx hb dX1_halve_28 (by decide) ?_
        refine gx_ishr (n := b / 32) hx hb dX1_halve_29 (by omega) (by decide) rfl ?_
        refine lv_iload_n hx hb dX1_halve_30 rfl (lv_at hl 0 rfl) ?_
        refine lv_iload_n hx hb dX1_halve_31 rfl (lv_at hl 2 rfl) ?_
        refine lv_bipush (v := (nI 31)) hx hb dX1_halve_32 (by decide) ?_
        refine gx_iand (n := b % 32) hx hb dX1_halve_34 5 (by omega) rfl (by decide) rfl ?_
        refine lv_iconst (v := (nI 1)) hx hb dX1_halve_35 (by decide) ?_
        refine lv_iload_n hx hb dX1_halve_36 rfl (lv_at hl 0 rfl) ?_
        refine gx_ishl (n := 2 ^ k) hx hb dX1_halve_37 (by omega) (Nat.one_mul _) (gp_lt (by omega)) ?_
        refine gx_iadd (n := b % 32 + 2 ^ k) hx hb dX1_halve_38 rfl ?_
        refine gw_cV (wr := []) (As := [.int (nI (b / 32)), .int (nI k), .int (nI (b % 32 + 2 ^ k))]) (rest := []) (ci := 0) (q0 := 0) ⟨hx, hb, hml, hown, hts⟩ (mX1_giveBack l D h hf ho cI cB G ec fd fm oa _ (b / 32) k (b % 32 + 2 ^ k) (by omega) (by omega) hh) (cwV 3 hts (lw_V q92 q94 qs8 q20 q95) rfl rfl rfl (by decide +kernel) ⟨Nat.le_of_ble_eq_true rfl, Nat.le_of_ble_eq_true rfl⟩) hK hP hD hS hA [0, 1, 2] [] rfl (by decide) rfl rfl (by decide) (by decide) rfl rfl rfl hl.1 rfl (Nat.le_of_ble_eq_true rfl) dX1_halve_39 ⟨Nat.zero_le _, Nat.zero_le _⟩ (fun u H locs h2 hP hD hS => ?_)
        obtain ⟨J, fm1, hgj, hgb, rfl⟩ := h2
        have hP : va_P D vwCl (gX h hf ho cI cB G ec fd fm1 oa) H := hP
        have hD : va_D A (gX h hf ho cI cB G ec fd fm1 oa) := hD
        refine lv_aload_n hx hb dX1_halve_42 rfl (lv_at hl 1 rfl) ?_
        refine va_get (D := D) (ci := 0) (v := .ref ho) (C := RX1) (T := TX1) (N := 5) hx hb hts in_X1 hown hK hP 0 rfl rfl 2 (by decide) (hts _ q32) (fun _ h9 => h9) rfl dX1_halve_43 ?_
        refine lv_iload_n hx hb dX1_halve_46 rfl (lv_at hl 2 rfl) ?_
        refine lv_iload_n hx hb dX1_halve_47 rfl (lv_at hl 0 rfl) ?_
        refine gx_i2b hx hb dX1_halve_48 (by omega) ?_
        refine gx_bast hx hb hK hP hD hS 2 1 rfl rfl (by omega) (by decide) (fa_byte_small (by omega)) dX1_halve_49 (fun H locs hP hD hS => ?_)
        have hP : va_P D vwCl (gX h hf ho cI cB G ec fd fm1 ((upd oa b ((nI k))))) H := hP
        have hD : va_D A (gX h hf ho cI cB G ec fd fm1 ((upd oa b ((nI k))))) := hD
        refine lv_iload_n hx hb dX1_halve_50 rfl (lv_at hl 0 rfl) ?_
        exact W.iret (v := (nI k)) hx hb hr (fun t9 ht9 hW9 => ⟨⟨_, (ec, fd, fm1, (upd oa b ((nI k)))), rfl, Or.inr ⟨b, hb0, rfl, hc, k + 1, hk, ek, Or.inr ⟨k, rfl, rfl, J, fm1, hgj, hgb, _, rfl⟩⟩, by rw [ht9]; exact hP, va_K.moved hW9.alike hK, hD⟩, hS.F ht9⟩) hS.2.2 dX1_halve_51
      · exact absurd (nI_pos' (by omega)) c2
  · refine lv_iconst (v := (-1)) hx hb dX1_halve_8 (by decide) ?_
    exact W.iret (v := (-1)) hx hb hr (fun t9 ht9 hW9 => ⟨⟨_, (ec, fd, fm, oa), rfl, Or.inl ⟨c1, rfl, _, rfl⟩, by rw [ht9]; exact hP, va_K.moved hW9.alike hK, hD⟩, hS.F ht9⟩) hS.2.2 dX1_halve_9
end
section
/-- x is the first block of an extent, by the owners -/
def okF (G : Nat) (ow : Nat → Int32) (x : Int32) : Prop := ∃ n, n < 32 * G ∧ x = nI n ∧ ow n = nI n
theorem okF_no {G n : Nat} {ow : Nat → Int32} (hG : G ≤ 4) (hn : n < 32 * G) (c : ¬ ow n = nI n) : ¬ okF G ow (nI n) := by
  rintro ⟨q, hq, e, hc⟩
  rw [nI_eq (by omega) (by omega)] at e
  subst e
  exact c hc
theorem okF_ok {G : Nat} {ow : Nat → Int32} {x : Int32} (c : ¬ okN (32 * G) x) : ¬ okF G ow x := by
  rintro ⟨q, hq, e, hc⟩
  exact c ⟨q, hq, e⟩
/-- c blocks from a on are free -/
def FE (ow : Nat → Int32) (a c : Nat) : Prop := ∀ b, a ≤ b → b < a + c → ow b = -1
def flF (ow : Nat → Int32) (a c : Nat) (v : Int32) : Nat → Int32 := fun b => if a ≤ b ∧ b < a + c then v else ow b
theorem flF_0 (ow : Nat → Int32) (a : Nat) (v : Int32) : flF ow a 0 v = ow := funext fun b => if_neg (by omega)
theorem flF_s (ow : Nat → Int32) (a t : Nat) (v : Int32) : upd (flF ow a t v) (a + t) v = flF ow a (t + 1) v := by
  funext b
  by_cases h : b = a + t
  · subst h
    rw [pk_us]
    exact (if_pos (by omega)).symm
  · rw [pk_un h]
    unfold flF
    by_cases h2 : a ≤ b ∧ b < a + t
    · rw [if_pos h2, if_pos (by omega)]
    · rw [if_neg h2, if_neg (by omega)]
/-- the run of order o from b on is one, and free -/
def RN (ow : Nat → Int32) (o b : Nat) : Prop := b % 2 ^ o = 0 ∧ FE ow b (2 ^ o)
noncomputable def rnB (ow : Nat → Int32) (o b : Nat) : Bool := @decide (RN ow o b) (Classical.propDecidable _)
theorem rnB_t {ow : Nat → Int32} {o b : Nat} (h : RN ow o b) : rnB ow o b = true := by unfold rnB; exact @decide_eq_true _ (Classical.propDecidable _) h
theorem rnB_f {ow : Nat → Int32} {o b : Nat} (h : ¬ RN ow o b) : rnB ow o b = false := by unfold rnB; exact @decide_eq_false _ (Classical.propDecidable _) h
def MSn (ow : Nat → Int32) (o a z : Nat) : Prop := ∀ c, a ≤ c → c < z → ¬ RN ow o c
def MSf (ow : Nat → Int32) (o a z p : Nat) : Prop := a ≤ p ∧ p < z ∧ RN ow o p ∧ MSn ow o a p
theorem gp_fit {o b : Nat} (ho : o < 6) (hb : b < 128) (h : b % 2 ^ o = 0) : b + 2 ^ o ≤ 128 := by
  rcases (show o = 0 ∨ o = 1 ∨ o = 2 ∨ o = 3 ∨ o = 4 ∨ o = 5 by omega) with rfl | rfl | rfl | rfl | rfl | rfl <;> simp only [Nat.reducePow] at h ⊢ <;> omega
theorem gp_fit2 {o b : Nat} (ho : o < 5) (hb : b < 128) (h : b % 2 ^ (o + 1) = 0) : b + 2 ^ o + 2 ^ o ≤ 128 := by
  have h1 := gp_fit (show o + 1 < 6 by omega) hb h
  rw [Nat.pow_succ] at h1
  omega
theorem gp_two {o : Nat} (h : o < 31) : 2 ^ o < 2 ^ 31 := Nat.pow_lt_pow_right (by decide) h
theorem fe_s {ow : Nat → Int32} {a t : Nat} (h : FE ow a t) (c : ow (a + t) = -1) : FE ow a (t + 1) := by
  intro b h1 h2
  rcases Nat.lt_or_ge b (a + t) with z | z
  · exact h b h1 z
  · rw [show b = a + t by omega]; exact c
theorem msn_s {ow : Nat → Int32} {o a t : Nat} (h : MSn ow o a (a + t)) (c : ¬ RN ow o (a + t)) : MSn ow o a (a + (t + 1)) := by
  intro b h1 h2
  rcases Nat.lt_or_ge b (a + t) with z | z
  · exact h b h1 z
  · rw [show b = a + t by omega]; exact c
def mkM (ow od : Nat → Int32) (o p : Nat) (r : Int32) (u : (Nat → Int32) × (Nat → Int32)) : Prop := r = nI p ∧ u = (flF ow p (2 ^ o) (nI p), upd od p (nI o))
/-- the place that allocate finds; none -/
def AMp (ow : Nat → Int32) (G o b p : Nat) : Prop := MSf ow o b (32 * (b / 32) + 32) p ∨ (MSn ow o b (32 * (b / 32) + 32) ∧ ∃ a, a < G ∧ (∀ c, c < a → MSn ow o (32 * ((b / 32 + c) % G)) (32 * ((b / 32 + c) % G) + 32)) ∧ MSf ow o (32 * ((b / 32 + a) % G)) (32 * ((b / 32 + a) % G) + 32) p)
def AMn (ow : Nat → Int32) (G o b a : Nat) : Prop := MSn ow o b (32 * (b / 32) + 32) ∧ ∀ c, c < a → MSn ow o (32 * ((b / 32 + c) % G)) (32 * ((b / 32 + c) % G) + 32)
def am_allo (ow od : Nat → Int32) (G o b : Nat) (r : Int32) (u : (Nat → Int32) × (Nat → Int32)) : Prop := (∃ p, p < 32 * G ∧ p % 2 ^ o = 0 ∧ AMp ow G o b p ∧ mkM ow od o p r u) ∨ (AMn ow G o b G ∧ r = -2 ∧ u = (ow, od))
def am_claim (ow od : Nat → Int32) (o b : Nat) (r : Int32) (u : (Nat → Int32) × (Nat → Int32)) : Prop := (¬ b % 2 ^ o = 0 ∧ r = -1 ∧ u = (ow, od)) ∨ (b % 2 ^ o = 0 ∧ ¬ FE ow b (2 ^ o) ∧ r = -2 ∧ u = (ow, od)) ∨ (b % 2 ^ o = 0 ∧ FE ow b (2 ^ o) ∧ mkM ow od o b r u)
def am_rel (ow od : Nat → Int32) (b : Nat) (r : Int32) (u : (Nat → Int32) × (Nat → Int32)) : Prop := ∃ o, o < 6 ∧ od b = nI o ∧ r = nI o ∧ u = (flF ow b (2 ^ o) (-1), od)
def am_grow (ow od : Nat → Int32) (b : Nat) (r : Int32) (u : (Nat → Int32) × (Nat → Int32)) : Prop := ∃ o, o < 6 ∧ od b = nI o ∧ (((o = 5 ∨ ¬ b % 2 ^ (o + 1) = 0 ∨ ¬ FE ow (b + 2 ^ o) (2 ^ o)) ∧ r = -2 ∧ u = (ow, od)) ∨ (o < 5 ∧ b % 2 ^ (o + 1) = 0 ∧ FE ow (b + 2 ^ o) (2 ^ o) ∧ r = nI (o + 1) ∧ u = (flF ow b (2 ^ (o + 1)) (nI b), upd od b (nI (o + 1)))))
def am_halve (ow od : Nat → Int32) (b : Nat) (r : Int32) (u : (Nat → Int32) × (Nat → Int32)) : Prop := ∃ o, o < 6 ∧ od b = nI o ∧ ((o = 0 ∧ r = -2 ∧ u = (ow, od)) ∨ ∃ q, o = q + 1 ∧ r = nI q ∧ u = (flF (flF ow b (2 ^ o) (-1)) b (2 ^ q) (nI b), upd od b (nI q)))
/-- the orders of the extents that the owners know -/
def wfM (G : Nat) (ow od : Nat → Int32) : Prop := ∀ b, b < 32 * G → ow b = nI b → ∃ o, o < 6 ∧ od b = nI o ∧ b % 2 ^ o = 0
theorem fb_up {p : Nat → Bool} {t : Nat} (h : p t = true) : fb_ct p t + 1 = fb_ct p (t + 1) := by rw [fb_ct_succ, h]; rfl
theorem fb_no {p : Nat → Bool} {t : Nat} (h : p t = false) : fb_ct p t = fb_ct p (t + 1) := by rw [fb_ct_succ, h]; rfl
set_option maxHeartbeats 4000000 in
set_option maxRecDepth 100000 in
theorem mX2_isOrder (l : Launch) (D : va_G) (k kw ko : Nat) (cW cO : ClassId) (G : Nat) (ow od : Nat → Int32) (x : Int32) : Met l yX2_isOrder (ws_ yX2_isOrder cX2_isOrder 2 (some .boolean)) ({ frames := 0, cells := 0, slots := 0, locals := 0 } : Room) (gw_Ps D (gM k kw ko cW cO G ow od) (tM cW cO) [.ref k, .int x]) (vp_Si (fun r => (r = 1 ∧ okN 6 x) ∨ (r = 0 ∧ ¬ okN 6 x))) 0 0 (fun _ => False) := by
  refine gw_ofS (by decide) (Nat.le_of_ble_eq_true rfl) ?_
  intro p e s m below meth c ls hx hb hr hml hown hts hlocks hP hK hl
  have hl : lv_has ls 2 [(0, .ref k), (1, .int x)] := hl
  have hown : s.vm.findClass RX2 = some m.cls := hown
  refine lv_iload_n hx hb dX2_isOrder_0 rfl (lv_at hl 1 rfl) ?_
  refine lv_if_lt (tgt := 13) hx hb dX2_isOrder_1 (by decide)  (fun c1 => ?_) (fun c1 => ?_)
  · refine lv_iconst (v := (nI 0)) hx hb dX2_isOrder_13 (by decide) ?_
    exact W.zret (v := (nI 0)) hx hb hr rfl (fun t9 ht9 hW9 => ⟨_, rfl, Or.inr ⟨rfl, ok_neg (by decide) c1⟩, ht9⟩) (fun q h => absurd h List.not_mem_nil) dX2_isOrder_14
  · refine lv_iload_n hx hb dX2_isOrder_4 rfl (lv_at hl 1 rfl) ?_
    refine lv_iconst (v := (nI 5)) hx hb dX2_isOrder_5 (by decide) ?_
    refine lv_icmp_gt (tgt := 13) hx hb dX2_isOrder_6 (by decide)  (fun c2 => ?_) (fun c2 => ?_)
    · refine lv_iconst (v := (nI 0)) hx hb dX2_isOrder_13 (by decide) ?_
      exact W.zret (v := (nI 0)) hx hb hr rfl (fun t9 ht9 hW9 => ⟨_, rfl, Or.inr ⟨rfl, ok_gt5 c2⟩, ht9⟩) (fun q h => absurd h List.not_mem_nil) dX2_isOrder_14
    · refine lv_iconst (v := (nI 1)) hx hb dX2_isOrder_9 (by decide) ?_
      refine lv_goto (tgt := 14) hx hb dX2_isOrder_10 (by decide) ?_
      exact W.zret (v := (nI 1)) hx hb hr rfl (fun t9 ht9 hW9 => ⟨_, rfl, Or.inl ⟨rfl, ok_le5 c1 c2⟩, ht9⟩) (fun q h => absurd h List.not_mem_nil) dX2_isOrder_14
set_option maxHeartbeats 4000000 in
set_option maxRecDepth 100000 in
theorem mX2_isBlock (l : Launch) (D : va_G) (k kw ko : Nat) (cW cO : ClassId) (G : Nat) (ow od : Nat → Int32) (hG : G ≤ 4) (x : Int32) : Met l yX2_isBlock (ws_ yX2_isBlock cX2_isBlock 2 (some .boolean)) ({ frames := 0, cells := 0, slots := 0, locals := 0 } : Room) (gw_Ps D (gM k kw ko cW cO G ow od) (tM cW cO) [.ref k, .int x]) (vp_Si (fun r => (r = 1 ∧ okN (32 * G) x) ∨ (r = 0 ∧ ¬ okN (32 * G) x))) 0 0 (fun _ => False) := by
  refine gw_ofS (by decide) (Nat.le_of_ble_eq_true rfl) ?_
  intro p e s m below meth c ls hx hb hr hml hown hts hlocks hP hK hl
  have hl : lv_has ls 2 [(0, .ref k), (1, .int x)] := hl
  have hown : s.vm.findClass RX2 = some m.cls := hown
  refine lv_iload_n hx hb dX2_isBlock_0 rfl (lv_at hl 1 rfl) ?_
  refine lv_if_lt (tgt := 19) hx hb dX2_isBlock_1 (by decide)  (fun c1 => ?_) (fun c1 => ?_)
  · refine lv_iconst (v := (nI 0)) hx hb dX2_isBlock_19 (by decide) ?_
    exact W.zret (v := (nI 0)) hx hb hr rfl (fun t9 ht9 hW9 => ⟨_, rfl, Or.inr ⟨rfl, ok_neg (by omega) c1⟩, ht9⟩) (fun q h => absurd h List.not_mem_nil) dX2_isBlock_20
  · refine lv_iload_n hx hb dX2_isBlock_4 rfl (lv_at hl 1 rfl) ?_
    refine lv_bipush (v := (nI 32)) hx hb dX2_isBlock_5 (by decide) ?_
    refine lv_aload_n hx hb dX2_isBlock_7 rfl (lv_at hl 0 rfl) ?_
    refine va_get (D := D) (ci := 1) (v := .int (nI G)) (C := RX2) (T := TX2) (N := 3) hx hb hts in_X2 hown hK hP 0 rfl rfl 0 (by decide) (hts _ q137) (fun _ h9 => h9) rfl dX2_isBlock_8 ?_
    refine gx_imul (n := 32 * G) hx hb dX2_isBlock_11 rfl ?_
    refine lv_icmp_ge (tgt := 19) hx hb dX2_isBlock_12 (by decide)  (fun c2 => ?_) (fun c2 => ?_)
    · refine lv_iconst (v := (nI 0)) hx hb dX2_isBlock_19 (by decide) ?_
      exact W.zret (v := (nI 0)) hx hb hr rfl (fun t9 ht9 hW9 => ⟨_, rfl, Or.inr ⟨rfl, ok_ge (by omega) c2⟩, ht9⟩) (fun q h => absurd h List.not_mem_nil) dX2_isBlock_20
    · refine lv_iconst (v := (nI 1)) hx hb dX2_isBlock_15 (by decide) ?_
      refine lv_goto (tgt := 20) hx hb dX2_isBlock_16 (by decide) ?_
      exact W.zret (v := (nI 1)) hx hb hr rfl (fun t9 ht9 hW9 => ⟨_, rfl, Or.inl ⟨rfl, ok_in (by omega) c1 c2⟩, ht9⟩) (fun q h => absurd h List.not_mem_nil) dX2_isBlock_20
set_option maxHeartbeats 4000000 in
set_option maxRecDepth 100000 in
theorem mX2_isGroup (l : Launch) (D : va_G) (k kw ko : Nat) (cW cO : ClassId) (G : Nat) (ow od : Nat → Int32) (hG : G ≤ 4) (x : Int32) : Met l yX2_isGroup (ws_ yX2_isGroup cX2_isGroup 2 (some .boolean)) ({ frames := 0, cells := 0, slots := 0, locals := 0 } : Room) (gw_Ps D (gM k kw ko cW cO G ow od) (tM cW cO) [.ref k, .int x]) (vp_Si (fun r => (r = 1 ∧ okN G x) ∨ (r = 0 ∧ ¬ okN G x))) 0 0 (fun _ => False) := by
  refine gw_ofS (by decide) (Nat.le_of_ble_eq_true rfl) ?_
  intro p e s m below meth c ls hx hb hr hml hown hts hlocks hP hK hl
  have hl : lv_has ls 2 [(0, .ref k), (1, .int x)] := hl
  have hown : s.vm.findClass RX2 = some m.cls := hown
  refine lv_iload_n hx hb dX2_isGroup_0 rfl (lv_at hl 1 rfl) ?_
  refine lv_if_lt (tgt := 16) hx hb dX2_isGroup_1 (by decide)  (fun c1 => ?_) (fun c1 => ?_)
  · refine lv_iconst (v := (nI 0)) hx hb dX2_isGroup_16 (by decide) ?_
    exact W.zret (v := (nI 0)) hx hb hr rfl (fun t9 ht9 hW9 => ⟨_, rfl, Or.inr ⟨rfl, ok_neg (by omega) c1⟩, ht9⟩) (fun q h => absurd h List.not_mem_nil) dX2_isGroup_17
  · refine lv_iload_n hx hb dX2_isGroup_4 rfl (lv_at hl 1 rfl) ?_
    refine lv_aload_n hx hb dX2_isGroup_5 rfl (lv_at hl 0 rfl) ?_
    refine va_get (D := D) (ci := 1) (v := .int (nI G)) (C := RX2) (T := TX2) (N := 3) hx hb hts in_X2 hown hK hP 0 rfl rfl 0 (by decide) (hts _ q137) (fun _ h9 => h9) rfl dX2_isGroup_6 ?_
    refine lv_icmp_ge (tgt := 16) hx hb dX2_isGroup_9 (by decide)  (fun c2 => ?_) (fun c2 => ?_)
    · refine lv_iconst (v := (nI 0)) hx hb dX2_isGroup_16 (by decide) ?_
      exact W.zret (v := (nI 0)) hx hb hr rfl (fun t9 ht9 hW9 => ⟨_, rfl, Or.inr ⟨rfl, ok_ge (by omega) c2⟩, ht9⟩) (fun q h => absurd h List.not_mem_nil) dX2_isGroup_17
    · refine lv_iconst (v := (nI 1)) hx hb dX2_isGroup_12 (by decide) ?_
      refine lv_goto (tgt := 17) hx hb dX2_isGroup_13 (by decide) ?_
      exact W.zret (v := (nI 1)) hx hb hr rfl (fun t9 ht9 hW9 => ⟨_, rfl, Or.inl ⟨rfl, ok_in (by omega) c1 c2⟩, ht9⟩) (fun q h => absurd h List.not_mem_nil) dX2_isGroup_17
set_option maxHeartbeats 4000000 in
set_option maxRecDepth 100000 in
theorem mX2_isExtent (l : Launch) (D : va_G) (k kw ko : Nat) (cW cO : ClassId) (G : Nat) (ow od : Nat → Int32) (hG : G ≤ 4) (x : Int32) : Met l yX2_isExtent (ws_ yX2_isExtent cX2_isExtent 2 (some .boolean)) ({ frames := 1, cells := 0, slots := 0, locals := 21 } : Room) (gw_Ps D (gM k kw ko cW cO G ow od) (tM cW cO) [.ref k, .int x]) (vp_Si (fun r => (r = 1 ∧ okF G ow x) ∨ (r = 0 ∧ ¬ okF G ow x))) 0 0 (fun _ => False) := by
  refine gw_ofS (by decide) (Nat.le_of_ble_eq_true rfl) ?_
  intro p e s m below meth c ls hx hb hr hml hown hts hlocks hP hK hl
  have hl : lv_has ls 2 [(0, .ref k), (1, .int x)] := hl
  have hown : s.vm.findClass RX2 = some m.cls := hown
  refine lv_aload_n hx hb dX2_isExtent_0 rfl (lv_at hl 0 rfl) ?_
  refine lv_iload_n hx hb dX2_isExtent_1 rfl (lv_at hl 1 rfl) ?_
  refine gw_cS (As := [.int x]) (rest := []) (ci := 1) (q0 := 0) ⟨hx, hb, hml, hown, hts⟩ (mX2_isBlock l D k kw ko cW cO G ow od hG x) (cwV 1 hts (lw_V q155 q157 qs11 q21 q158) rfl rfl rfl (by decide +kernel) ⟨Nat.le_of_ble_eq_true rfl, Nat.le_of_ble_eq_true rfl⟩) hK hP rfl rfl rfl hl.1 rfl (Nat.le_of_ble_eq_true rfl) dX2_isExtent_2 ⟨Nat.zero_le _, Nat.zero_le _⟩ (fun r h1 => ?_)
  refine gx_if_eqP (tgt := 22) hx hb dX2_isExtent_5 (by decide) h1 (fun c1 => ?_) (fun c1 => ?_)
  · refine lv_iconst (v := (nI 0)) hx hb dX2_isExtent_22 (by decide) ?_
    exact W.zret (v := (nI 0)) hx hb hr rfl (fun t9 ht9 hW9 => ⟨_, rfl, Or.inr ⟨rfl, okF_ok c1⟩, ht9⟩) (fun q h => absurd h List.not_mem_nil) dX2_isExtent_23
  · obtain ⟨b, hb0, rfl⟩ := c1
    refine lv_aload_n hx hb dX2_isExtent_8 rfl (lv_at hl 0 rfl) ?_
    refine va_get (D := D) (ci := 1) (v := .ref kw) (C := RX2) (T := TX2) (N := 3) hx hb hts in_X2 hown hK hP 0 rfl rfl 1 (by decide) (hts _ q138) (fun _ h9 => h9) rfl dX2_isExtent_9 ?_
    refine lv_iload_n hx hb dX2_isExtent_12 rfl (lv_at hl 1 rfl) ?_
    refine gx_iald hx hb hK hP 1 0 rfl rfl (by omega) (by decide) dX2_isExtent_13 ?_
    refine lv_iload_n hx hb dX2_isExtent_14 rfl (lv_at hl 1 rfl) ?_
    refine lv_icmp_ne (tgt := 22) hx hb dX2_isExtent_15 (by decide)  (fun c2 => ?_) (fun c2 => ?_)
    · refine lv_iconst (v := (nI 0)) hx hb dX2_isExtent_22 (by decide) ?_
      exact W.zret (v := (nI 0)) hx hb hr rfl (fun t9 ht9 hW9 => ⟨_, rfl, Or.inr ⟨rfl, okF_no hG hb0 c2⟩, ht9⟩) (fun q h => absurd h List.not_mem_nil) dX2_isExtent_23
    · refine lv_iconst (v := (nI 1)) hx hb dX2_isExtent_18 (by decide) ?_
      refine lv_goto (tgt := 23) hx hb dX2_isExtent_19 (by decide) ?_
      exact W.zret (v := (nI 1)) hx hb hr rfl (fun t9 ht9 hW9 => ⟨_, rfl, Or.inl ⟨rfl, b, hb0, rfl, c2⟩, ht9⟩) (fun q h => absurd h List.not_mem_nil) dX2_isExtent_23
set_option maxHeartbeats 4000000 in
set_option maxRecDepth 100000 in
theorem mX2_isRun (l : Launch) (D : va_G) (k kw ko : Nat) (cW cO : ClassId) (G : Nat) (ow od : Nat → Int32) (o b : Nat) (ho6 : o < 6) (hb0 : b < 129) : Met l yX2_isRun (ws_ yX2_isRun cX2_isRun 3 (some .boolean)) ({ frames := 0, cells := 0, slots := 0, locals := 0 } : Room) (gw_Ps D (gM k kw ko cW cO G ow od) (tM cW cO) [.ref k, .int (nI o), .int (nI b)]) (vp_Si (fun r => (r = 1 ∧ b % 2 ^ o = 0) ∨ (r = 0 ∧ ¬ b % 2 ^ o = 0))) 0 0 (fun _ => False) := by
  refine gw_ofS (by decide) (Nat.le_of_ble_eq_true rfl) ?_
  intro p e s m below meth c ls hx hb hr hml hown hts hlocks hP hK hl
  have hl : lv_has ls 3 [(0, .ref k), (1, .int (nI o)), (2, .int (nI b))] := hl
  have hown : s.vm.findClass RX2 = some m.cls := hown
  have h1o : 0 < 2 ^ o := Nat.two_pow_pos o
  have h2o := gp_32 ho6
  refine lv_iload_n hx hb dX2_isRun_0 rfl (lv_at hl 2 rfl) ?_
  refine lv_iconst (v := (nI 1)) hx hb dX2_isRun_1 (by decide) ?_
  refine lv_iload_n hx hb dX2_isRun_2 rfl (lv_at hl 1 rfl) ?_
  refine gx_ishl (n := 2 ^ o) hx hb dX2_isRun_3 (by omega) (Nat.one_mul _) (gp_lt (by omega)) ?_
  refine gx_irem (n := b % (2 ^ o)) hx hb dX2_isRun_4 (by omega) (by omega) (by omega) rfl ?_
  refine gx_if_neN (tgt := 12) hx hb dX2_isRun_5 (by decide) (by have := Nat.mod_le b (2 ^ o); omega) (fun c1 => ?_) (fun c1 => ?_)
  · refine lv_iconst (v := (nI 0)) hx hb dX2_isRun_12 (by decide) ?_
    exact W.zret (v := (nI 0)) hx hb hr rfl (fun t9 ht9 hW9 => ⟨_, rfl, Or.inr ⟨rfl, c1⟩, ht9⟩) (fun q h => absurd h List.not_mem_nil) dX2_isRun_13
  · refine lv_iconst (v := (nI 1)) hx hb dX2_isRun_8 (by decide) ?_
    refine lv_goto (tgt := 13) hx hb dX2_isRun_9 (by decide) ?_
    exact W.zret (v := (nI 1)) hx hb hr rfl (fun t9 ht9 hW9 => ⟨_, rfl, Or.inl ⟨rfl, c1⟩, ht9⟩) (fun q h => absurd h List.not_mem_nil) dX2_isRun_13
set_option maxHeartbeats 4000000 in
set_option maxRecDepth 100000 in
theorem mX2_free (l : Launch) (D : va_G) (k kw ko : Nat) (cW cO : ClassId) (G : Nat) (ow od : Nat → Int32) (a c0 : Nat) (hac : a + c0 ≤ 128) : Met l yX2_free (ws_ yX2_free cX2_free 4 (some .boolean)) ({ frames := 0, cells := 0, slots := 0, locals := 0 } : Room) (gw_Ps D (gM k kw ko cW cO G ow od) (tM cW cO) [.ref k, .int (nI a), .int (nI c0)]) (vp_Si (fun r => (r = 1 ∧ FE ow a c0) ∨ (r = 0 ∧ ¬ FE ow a c0))) 0 0 (fun _ => False) := by
  refine gw_ofS (by decide) (Nat.le_of_ble_eq_true rfl) ?_
  intro p e s m below meth c ls hx hb hr hml hown hts hlocks hP hK hl
  have hl : lv_has ls 4 [(0, .ref k), (1, .int (nI a)), (2, .int (nI c0))] := hl
  have hown : s.vm.findClass RX2 = some m.cls := hown
  refine lv_iload_n hx hb dX2_free_0 rfl (lv_at hl 1 rfl) ?_
  refine lv_istore_n (lv' := [(3, .int (nI a)), (0, .ref k), (1, .int (nI a)), (2, .int (nI c0))]) hx hb dX2_free_1 rfl hl (by decide) rfl (fun ls hl => ?_)
  refine gx_loopP (σ := Nat) (fun t ls => (t ≤ c0 ∧ FE ow a t) ∧ lv_has ls 4 [(3, .int (nI (a + t))), (0, .ref k), (1, .int (nI a)), (2, .int (nI c0))]) (fun t => c0 - t) 0 ⟨⟨Nat.zero_le _, fun b h1 h2 => absurd h1 (Nat.not_le.mpr h2)⟩, hl⟩ ?_
  intro t ls ⟨⟨ht, hfe⟩, hl⟩ ih
  refine lv_iload_n hx hb dX2_free_2 rfl (lv_at hl 0 rfl) ?_
  refine lv_iload_n hx hb dX2_free_3 rfl (lv_at hl 2 rfl) ?_
  refine lv_iload_n hx hb dX2_free_4 rfl (lv_at hl 3 rfl) ?_
  refine gx_iadd (n := a + c0) hx hb dX2_free_5 rfl ?_
  refine gx_icmp_ge (tgt := 27) hx hb dX2_free_6 (by decide) (by omega) (by omega) (fun c1 => ?_) (fun c1 => ?_)
  · refine lv_iconst (v := (nI 1)) hx hb dX2_free_27 (by decide) ?_
    have e : t = c0 := by omega
    rw [e] at hfe
    exact W.zret (v := (nI 1)) hx hb hr rfl (fun t9 ht9 hW9 => ⟨_, rfl, Or.inl ⟨rfl, hfe⟩, ht9⟩) (fun q h => absurd h List.not_mem_nil) dX2_free_28
  · refine lv_aload_n hx hb dX2_free_9 rfl (lv_at hl 1 rfl) ?_
    refine va_get (D := D) (ci := 1) (v := .ref kw) (C := RX2) (T := TX2) (N := 3) hx hb hts in_X2 hown hK hP 0 rfl rfl 1 (by decide) (hts _ q138) (fun _ h9 => h9) rfl dX2_free_10 ?_
    refine lv_iload_n hx hb dX2_free_13 rfl (lv_at hl 0 rfl) ?_
    refine gx_iald hx hb hK hP 1 0 rfl rfl (by omega) (by decide) dX2_free_14 ?_
    refine lv_iconst (v := (-1)) hx hb dX2_free_15 (by decide) ?_
    refine lv_icmp_eq (tgt := 21) hx hb dX2_free_16 (by decide)  (fun c2 => ?_) (fun c2 => ?_)
    · refine lv_iinc (v := (nI (a + t + 1))) (lv' := [(3, .int (nI (a + t + 1))), (0, .ref k), (1, .int (nI a)), (2, .int (nI c0))]) hx hb dX2_free_21 hl (k := 0) rfl (gn_inc (a + t)) (by decide) rfl (fun ls hl => ?_)
      refine lv_goto (tgt := 2) hx hb dX2_free_24 (by decide) ?_
      exact ih (t + 1) ls ⟨⟨by omega, fe_s hfe c2⟩, lv_sub hl [0, 1, 2, 3] rfl⟩ (by omega)
    · refine lv_iconst (v := (nI 0)) hx hb dX2_free_19 (by decide) ?_
      exact W.zret (v := (nI 0)) hx hb hr rfl (fun t9 ht9 hW9 => ⟨_, rfl, Or.inr ⟨rfl, fun q => c2 (q (a + t) (by omega) (by omega))⟩, ht9⟩) (fun q h => absurd h List.not_mem_nil) dX2_free_20
set_option maxHeartbeats 4000000 in
set_option maxRecDepth 100000 in
theorem mX2_fill (l : Launch) (D : va_G) (k kw ko : Nat) (cW cO : ClassId) (G : Nat) (ow od : Nat → Int32) (sz : Nat) (a c0 : Nat) (v : Int32) (hac : a + c0 ≤ 128) : Met l yX2_fill (ws_ yX2_fill cX2_fill 5 none) ({ frames := 0, cells := 0, slots := 0, locals := 0 } : Room) (gw_Pc D (gM k kw ko cW cO G ow od) (tM cW cO) sz [.ref k, .int (nI a), .int (nI c0), .int v]) (gw_V D (tM cW cO) (fun u : ((Nat → Int32) × (Nat → Int32)) => gM k kw ko cW cO G u.1 u.2) (fun (u : ((Nat → Int32) × (Nat → Int32))) => u = (flF ow a c0 v, od)) (va_A (gM k kw ko cW cO G ow od) sz)) 0 0 (va_A (gM k kw ko cW cO G ow od) sz) := by
  refine gw_ofQ (gw_V D (tM cW cO) (fun u : ((Nat → Int32) × (Nat → Int32)) => gM k kw ko cW cO G u.1 u.2) (fun (u : ((Nat → Int32) × (Nat → Int32))) => u = (flF ow a c0 v, od))) (by decide) (Nat.le_of_ble_eq_true rfl) ?_
  intro p e s m below meth c ls A hx hb hr hml hown hts hlocks _ hP hK hD hS hA hl
  have hl : lv_has ls 5 [(0, .ref k), (1, .int (nI a)), (2, .int (nI c0)), (3, .int v)] := hl
  have hown : s.vm.findClass RX2 = some m.cls := hown
  have hP : va_P D vwCl (gM k kw ko cW cO G ow od) s.heap := hP
  have hD : va_D A (gM k kw ko cW cO G ow od) := hD
  refine lv_iload_n hx hb dX2_fill_0 rfl (lv_at hl 1 rfl) ?_
  refine lv_istore (lv' := [(4, .int (nI a)), (0, .ref k), (1, .int (nI a)), (2, .int (nI c0)), (3, .int v)]) hx hb dX2_fill_1 hl (by decide) rfl (fun ls hl => ?_)
  refine gx_loopM (σ := Nat) (fun t H locs ls => t ≤ c0 ∧ (va_P D vwCl (gM k kw ko cW cO G (flF ow a t v) od) H ∧ va_D A (gM k kw ko cW cO G (flF ow a t v) od) ∧ va_S A s.heap H locs) ∧ lv_has ls 5 [(4, .int (nI (a + t))), (0, .ref k), (1, .int (nI a)), (2, .int (nI c0)), (3, .int v)]) (fun t => c0 - t) 0 ⟨Nat.zero_le _, ⟨by rw [flF_0]; exact hP, by rw [flF_0]; exact hD, hS⟩, hl⟩ ?_
  rintro t H locs ls ⟨ht, ⟨hP, hD, hS⟩, hl⟩ ih
  refine lv_iload hx hb dX2_fill_3 (lv_at hl 0 rfl) ?_
  refine lv_iload_n hx hb dX2_fill_5 rfl (lv_at hl 2 rfl) ?_
  refine lv_iload_n hx hb dX2_fill_6 rfl (lv_at hl 3 rfl) ?_
  refine gx_iadd (n := a + c0) hx hb dX2_fill_7 rfl ?_
  refine gx_icmp_ge (tgt := 25) hx hb dX2_fill_8 (by decide) (by omega) (by omega) (fun c1 => ?_) (fun c1 => ?_)
  · have e : t = c0 := by omega
    exact W.vret hx hb hr (fun t9 ht9 hW9 => ⟨⟨(flF ow a t v, od), rfl, by rw [e], by rw [ht9]; exact hP, va_K.moved hW9.alike hK, hD⟩, hS.F ht9⟩) hS.2.2 dX2_fill_25
  · refine lv_aload_n hx hb dX2_fill_11 rfl (lv_at hl 1 rfl) ?_
    refine va_get (D := D) (ci := 1) (v := .ref kw) (C := RX2) (T := TX2) (N := 3) hx hb hts in_X2 hown hK hP 0 rfl rfl 1 (by decide) (hts _ q138) (fun _ h9 => h9) rfl dX2_fill_12 ?_
    refine lv_iload hx hb dX2_fill_15 (lv_at hl 0 rfl) ?_
    refine lv_iload_n hx hb dX2_fill_17 rfl (lv_at hl 4 rfl) ?_
    refine gx_iast hx hb hK hP hD hS 1 0 rfl rfl (by omega) (by decide) dX2_fill_18 (fun H locs hP hD hS => ?_)
    have hP : va_P D vwCl (gM k kw ko cW cO G ((upd (flF ow a t v) (a + t) v)) od) H := hP
    have hD : va_D A (gM k kw ko cW cO G ((upd (flF ow a t v) (a + t) v)) od) := hD
    refine lv_iinc (v := (nI (a + t + 1))) (lv' := [(4, .int (nI (a + t + 1))), (0, .ref k), (1, .int (nI a)), (2, .int (nI c0)), (3, .int v)]) hx hb dX2_fill_19 hl (k := 0) rfl (gn_inc (a + t)) (by decide) rfl (fun ls hl => ?_)
    refine lv_goto (tgt := 3) hx hb dX2_fill_22 (by decide) ?_
    rw [flF_s] at hP hD
    exact ih (t + 1) _ _ ls ⟨by omega, ⟨hP, hD, hS⟩, lv_sub hl [0, 1, 2, 3, 4] rfl⟩ (by omega)
set_option maxHeartbeats 4000000 in
set_option maxRecDepth 100000 in
theorem mX2_make (l : Launch) (D : va_G) (k kw ko : Nat) (cW cO : ClassId) (G : Nat) (ow od : Nat → Int32) (sz : Nat) (o b : Nat) (ho6 : o < 6) (hbo : b + 2 ^ o ≤ 128) : Met l yX2_make (ws_ yX2_make cX2_make 3 (some .int)) ({ frames := 1, cells := 0, slots := 0, locals := 24 } : Room) (gw_Pc D (gM k kw ko cW cO G ow od) (tM cW cO) sz [.ref k, .int (nI o), .int (nI b)]) (gw_Q D (tM cW cO) (fun u : ((Nat → Int32) × (Nat → Int32)) => gM k kw ko cW cO G u.1 u.2) (fun (r : Int32) (u : ((Nat → Int32) × (Nat → Int32))) => mkM ow od o b r u) (va_A (gM k kw ko cW cO G ow od) sz)) 0 0 (va_A (gM k kw ko cW cO G ow od) sz) := by
  refine gw_ofQ (gw_Q D (tM cW cO) (fun u : ((Nat → Int32) × (Nat → Int32)) => gM k kw ko cW cO G u.1 u.2) (fun (r : Int32) (u : ((Nat → Int32) × (Nat → Int32))) => mkM ow od o b r u)) (by decide) (Nat.le_of_ble_eq_true rfl) ?_
  intro p e s m below meth c ls A hx hb hr hml hown hts hlocks _ hP hK hD hS hA hl
  have hl : lv_has ls 3 [(0, .ref k), (1, .int (nI o)), (2, .int (nI b))] := hl
  have hown : s.vm.findClass RX2 = some m.cls := hown
  have hP : va_P D vwCl (gM k kw ko cW cO G ow od) s.heap := hP
  have hD : va_D A (gM k kw ko cW cO G ow od) := hD
  refine lv_aload_n hx hb dX2_make_0 rfl (lv_at hl 0 rfl) ?_
  refine lv_iload_n hx hb dX2_make_1 rfl (lv_at hl 2 rfl) ?_
  refine lv_iconst (v := (nI 1)) hx hb dX2_make_2 (by decide) ?_
  refine lv_iload_n hx hb dX2_make_3 rfl (lv_at hl 1 rfl) ?_
  refine gx_ishl (n := 2 ^ o) hx hb dX2_make_4 (by omega) (Nat.one_mul _) (gp_lt (by omega)) ?_
  refine lv_iload_n hx hb dX2_make_5 rfl (lv_at hl 2 rfl) ?_
  refine gw_cV (wr := []) (As := [.int (nI b), .int (nI (2 ^ o)), .int (nI b)]) (rest := []) (ci := 1) (q0 := 0) ⟨hx, hb, hml, hown, hts⟩ (mX2_fill l D k kw ko cW cO G ow od _ b (2 ^ o) (nI b) hbo) (cwV 3 hts (lw_V q175 q177 qs16 q21 q178) rfl rfl rfl (by decide +kernel) ⟨Nat.le_of_ble_eq_true rfl, Nat.le_of_ble_eq_true rfl⟩) hK hP hD hS hA [0, 1, 2] [] rfl (by decide) rfl rfl (by decide) (by decide) rfl rfl rfl hl.1 rfl (Nat.le_of_ble_eq_true rfl) dX2_make_6 ⟨Nat.zero_le _, Nat.zero_le _⟩ (fun u H locs h1 hP hD hS => ?_)
  subst h1
  have hP : va_P D vwCl (gM k kw ko cW cO G (flF ow b (2 ^ o) (nI b)) od) H := hP
  have hD : va_D A (gM k kw ko cW cO G (flF ow b (2 ^ o) (nI b)) od) := hD
  have h1o : 0 < 2 ^ o := Nat.two_pow_pos o
  refine lv_aload_n hx hb dX2_make_9 rfl (lv_at hl 0 rfl) ?_
  refine va_get (D := D) (ci := 1) (v := .ref ko) (C := RX2) (T := TX2) (N := 3) hx hb hts in_X2 hown hK hP 0 rfl rfl 2 (by decide) (hts _ q139) (fun _ h9 => h9) rfl dX2_make_10 ?_
  refine lv_iload_n hx hb dX2_make_13 rfl (lv_at hl 2 rfl) ?_
  refine lv_iload_n hx hb dX2_make_14 rfl (lv_at hl 1 rfl) ?_
  refine gx_iast hx hb hK hP hD hS 2 1 rfl rfl (by omega) (by decide) dX2_make_15 (fun H locs hP hD hS => ?_)
  have hP : va_P D vwCl (gM k kw ko cW cO G (flF ow b (2 ^ o) (nI b)) ((upd od b ((nI o))))) H := hP
  have hD : va_D A (gM k kw ko cW cO G (flF ow b (2 ^ o) (nI b)) ((upd od b ((nI o))))) := hD
  refine lv_iload_n hx hb dX2_make_16 rfl (lv_at hl 2 rfl) ?_
  exact W.iret (v := (nI b)) hx hb hr (fun t9 ht9 hW9 => ⟨⟨_, (flF ow b (2 ^ o) (nI b), (upd od b ((nI o)))), rfl, ⟨rfl, rfl⟩, by rw [ht9]; exact hP, va_K.moved hW9.alike hK, hD⟩, hS.F ht9⟩) hS.2.2 dX2_make_17
set_option maxHeartbeats 4000000 in
set_option maxRecDepth 100000 in
theorem mX2_search (l : Launch) (D : va_G) (k kw ko : Nat) (cW cO : ClassId) (G : Nat) (ow od : Nat → Int32) (o a z : Nat) (ho6 : o < 6) (haz : a ≤ z) (hz : z ≤ 128) : Met l yX2_search (ws_ yX2_search cX2_search 5 (some .int)) ({ frames := 1, cells := 0, slots := 0, locals := 23 } : Room) (gw_Ps D (gM k kw ko cW cO G ow od) (tM cW cO) [.ref k, .int (nI o), .int (nI a), .int (nI z)]) (vp_Si (fun r => (∃ p, r = nI p ∧ MSf ow o a z p) ∨ (r = -1 ∧ MSn ow o a z))) 0 0 (fun _ => False) := by
  refine gw_ofS (by decide) (Nat.le_of_ble_eq_true rfl) ?_
  intro p e s m below meth c ls hx hb hr hml hown hts hlocks hP hK hl
  have hl : lv_has ls 5 [(0, .ref k), (1, .int (nI o)), (2, .int (nI a)), (3, .int (nI z))] := hl
  have hown : s.vm.findClass RX2 = some m.cls := hown
  refine lv_iload_n hx hb dX2_search_0 rfl (lv_at hl 2 rfl) ?_
  refine lv_istore (lv' := [(4, .int (nI a)), (0, .ref k), (1, .int (nI o)), (2, .int (nI a)), (3, .int (nI z))]) hx hb dX2_search_1 hl (by decide) rfl (fun ls hl => ?_)
  refine gx_loopP (σ := Nat) (fun t ls => (t ≤ z - a ∧ MSn ow o a (a + t)) ∧ lv_has ls 5 [(4, .int (nI (a + t))), (0, .ref k), (1, .int (nI o)), (2, .int (nI a)), (3, .int (nI z))]) (fun t => z - a - t) 0 ⟨⟨Nat.zero_le _, fun b h1 h2 => absurd h1 (Nat.not_le.mpr h2)⟩, hl⟩ ?_
  intro t ls ⟨⟨ht, hms⟩, hl⟩ ih
  refine lv_iload hx hb dX2_search_3 (lv_at hl 0 rfl) ?_
  refine lv_iload_n hx hb dX2_search_5 rfl (lv_at hl 4 rfl) ?_
  refine gx_icmp_ge (tgt := 40) hx hb dX2_search_6 (by decide) (by omega) (by omega) (fun c1 => ?_) (fun c1 => ?_)
  · refine lv_iconst (v := (-1)) hx hb dX2_search_40 (by decide) ?_
    have e : a + t = z := by omega
    rw [e] at hms
    exact W.iret (v := (-1)) hx hb hr (fun t9 ht9 hW9 => ⟨_, rfl, Or.inr ⟨rfl, hms⟩, ht9⟩) (fun q h => absurd h List.not_mem_nil) dX2_search_41
  · refine lv_aload_n hx hb dX2_search_9 rfl (lv_at hl 1 rfl) ?_
    refine lv_iload_n hx hb dX2_search_10 rfl (lv_at hl 2 rfl) ?_
    refine lv_iload hx hb dX2_search_11 (lv_at hl 0 rfl) ?_
    refine gw_cS (As := [.int (nI o), .int (nI (a + t))]) (rest := []) (ci := 1) (q0 := 0) ⟨hx, hb, hml, hown, hts⟩ (mX2_isRun l D k kw ko cW cO G ow od o (a + t) ho6 (by omega)) (cwV 2 hts (lw_V q163 q165 qs13 q21 q166) rfl rfl rfl (by decide +kernel) ⟨Nat.le_of_ble_eq_true rfl, Nat.le_of_ble_eq_true rfl⟩) hK hP rfl rfl rfl hl.1 rfl (Nat.le_of_ble_eq_true rfl) dX2_search_13 ⟨Nat.zero_le _, Nat.zero_le _⟩ (fun r h1 => ?_)
    refine gx_if_eqP (tgt := 34) hx hb dX2_search_16 (by decide) h1 (fun c2 => ?_) (fun c2 => ?_)
    · refine lv_iinc (v := (nI (a + t + 1))) (lv' := [(4, .int (nI (a + t + 1))), (0, .ref k), (1, .int (nI o)), (2, .int (nI a)), (3, .int (nI z))]) hx hb dX2_search_34 hl (k := 0) rfl (gn_inc (a + t)) (by decide) rfl (fun ls hl => ?_)
      refine lv_goto (tgt := 3) hx hb dX2_search_37 (by decide) ?_
      exact ih (t + 1) ls ⟨⟨by omega, msn_s hms (fun q => c2 q.1)⟩, lv_sub hl [0, 1, 2, 3, 4] rfl⟩ (by omega)
    · refine lv_aload_n hx hb dX2_search_19 rfl (lv_at hl 1 rfl) ?_
      refine lv_iload hx hb dX2_search_20 (lv_at hl 0 rfl) ?_
      refine lv_iconst (v := (nI 1)) hx hb dX2_search_22 (by decide) ?_
      refine lv_iload_n hx hb dX2_search_23 rfl (lv_at hl 2 rfl) ?_
      refine gx_ishl (n := 2 ^ o) hx hb dX2_search_24 (by omega) (Nat.one_mul _) (gp_lt (by omega)) ?_
      refine gw_cS (As := [.int (nI (a + t)), .int (nI (2 ^ o))]) (rest := []) (ci := 1) (q0 := 0) ⟨hx, hb, hml, hown, hts⟩ (mX2_free l D k kw ko cW cO G ow od (a + t) (2 ^ o) (gp_fit ho6 (by omega) c2)) (cwV 2 hts (lw_V q167 q169 qs14 q21 q170) rfl rfl rfl (by decide +kernel) ⟨Nat.le_of_ble_eq_true rfl, Nat.le_of_ble_eq_true rfl⟩) hK hP rfl rfl rfl hl.1 rfl (Nat.le_of_ble_eq_true rfl) dX2_search_25 ⟨Nat.zero_le _, Nat.zero_le _⟩ (fun r h2 => ?_)
      refine gx_if_eqP (tgt := 34) hx hb dX2_search_28 (by decide) h2 (fun c3 => ?_) (fun c3 => ?_)
      · refine lv_iinc (v := (nI (a + t + 1))) (lv' := [(4, .int (nI (a + t + 1))), (0, .ref k), (1, .int (nI o)), (2, .int (nI a)), (3, .int (nI z))]) hx hb dX2_search_34 hl (k := 0) rfl (gn_inc (a + t)) (by decide) rfl (fun ls hl => ?_)
        refine lv_goto (tgt := 3) hx hb dX2_search_37 (by decide) ?_
        exact ih (t + 1) ls ⟨⟨by omega, msn_s hms (fun q => c3 q.2)⟩, lv_sub hl [0, 1, 2, 3, 4] rfl⟩ (by omega)
      · refine lv_iload hx hb dX2_search_31 (lv_at hl 0 rfl) ?_
        exact W.iret (v := (nI (a + t))) hx hb hr (fun t9 ht9 hW9 => ⟨_, rfl, Or.inl ⟨a + t, rfl, by omega, c1, ⟨c2, c3⟩, hms⟩, ht9⟩) (fun q h => absurd h List.not_mem_nil) dX2_search_33
set_option maxHeartbeats 4000000 in
set_option maxRecDepth 100000 in
theorem mX2_allocate (l : Launch) (D : va_G) (k kw ko : Nat) (cW cO : ClassId) (G : Nat) (ow od : Nat → Int32) (sz : Nat) (hG1 : 0 < G) (hG : G ≤ 4) (x y : Int32) : Met l yX2_allocate (ws_ yX2_allocate cX2_allocate 7 (some .int)) ({ frames := 2, cells := 0, slots := 0, locals := 47 } : Room) (gw_Pc D (gM k kw ko cW cO G ow od) (tM cW cO) sz [.ref k, .int x, .int y]) (gw_Q D (tM cW cO) (fun u : ((Nat → Int32) × (Nat → Int32)) => gM k kw ko cW cO G u.1 u.2) (fun (r : Int32) (u : ((Nat → Int32) × (Nat → Int32))) => (¬ (okN 6 x ∧ okN (32 * G) y) ∧ r = -1 ∧ u = (ow, od)) ∨ (∃ o b, o < 6 ∧ b < 32 * G ∧ x = nI o ∧ y = nI b ∧ am_allo ow od G o b r u)) (va_A (gM k kw ko cW cO G ow od) sz)) 0 0 (va_A (gM k kw ko cW cO G ow od) sz) := by
  refine gw_ofQ (gw_Q D (tM cW cO) (fun u : ((Nat → Int32) × (Nat → Int32)) => gM k kw ko cW cO G u.1 u.2) (fun (r : Int32) (u : ((Nat → Int32) × (Nat → Int32))) => (¬ (okN 6 x ∧ okN (32 * G) y) ∧ r = -1 ∧ u = (ow, od)) ∨ (∃ o b, o < 6 ∧ b < 32 * G ∧ x = nI o ∧ y = nI b ∧ am_allo ow od G o b r u))) (by decide) (Nat.le_of_ble_eq_true rfl) ?_
  intro p e s m below meth c ls A hx hb hr hml hown hts hlocks _ hP hK hD hS hA hl
  have hl : lv_has ls 7 [(0, .ref k), (1, .int x), (2, .int y)] := hl
  have hown : s.vm.findClass RX2 = some m.cls := hown
  have hP : va_P D vwCl (gM k kw ko cW cO G ow od) s.heap := hP
  have hD : va_D A (gM k kw ko cW cO G ow od) := hD
  refine lv_aload_n hx hb dX2_allocate_0 rfl (lv_at hl 0 rfl) ?_
  refine lv_iload_n hx hb dX2_allocate_1 rfl (lv_at hl 1 rfl) ?_
  refine gw_cS (As := [.int x]) (rest := []) (ci := 1) (q0 := 0) ⟨hx, hb, hml, hown, hts⟩ (mX2_isOrder l D k kw ko cW cO G ow od x) (cwV 1 hts (lw_V q151 q153 qs10 q21 q154) rfl rfl rfl (by decide +kernel) ⟨Nat.le_of_ble_eq_true rfl, Nat.le_of_ble_eq_true rfl⟩) hK hP rfl rfl rfl hl.1 rfl (Nat.le_of_ble_eq_true rfl) dX2_allocate_2 ⟨Nat.zero_le _, Nat.zero_le _⟩ (fun r h1 => ?_)
  refine gx_if_eqP (tgt := 16) hx hb dX2_allocate_5 (by decide) h1 (fun c1 => ?_) (fun c1 => ?_)
  · refine lv_iconst (v := (-1)) hx hb dX2_allocate_16 (by decide) ?_
    exact W.iret (v := (-1)) hx hb hr (fun t9 ht9 hW9 => ⟨⟨_, (ow, od), rfl, Or.inl ⟨fun q => c1 q.1, rfl, rfl⟩, by rw [ht9]; exact hP, va_K.moved hW9.alike hK, hD⟩, hS.F ht9⟩) hS.2.2 dX2_allocate_17
  · obtain ⟨o, ho6, rfl⟩ := c1
    refine lv_aload_n hx hb dX2_allocate_8 rfl (lv_at hl 0 rfl) ?_
    refine lv_iload_n hx hb dX2_allocate_9 rfl (lv_at hl 2 rfl) ?_
    refine gw_cS (As := [.int y]) (rest := []) (ci := 1) (q0 := 0) ⟨hx, hb, hml, hown, hts⟩ (mX2_isBlock l D k kw ko cW cO G ow od hG y) (cwV 1 hts (lw_V q155 q157 qs11 q21 q158) rfl rfl rfl (by decide +kernel) ⟨Nat.le_of_ble_eq_true rfl, Nat.le_of_ble_eq_true rfl⟩) hK hP rfl rfl rfl hl.1 rfl (Nat.le_of_ble_eq_true rfl) dX2_allocate_10 ⟨Nat.zero_le _, Nat.zero_le _⟩ (fun r h2 => ?_)
    refine gx_if_neP (tgt := 18) hx hb dX2_allocate_13 (by decide) h2 (fun c2 => ?_) (fun c2 => ?_)
    · obtain ⟨b, hb0, rfl⟩ := c2
      refine lv_iload_n hx hb dX2_allocate_18 rfl (lv_at hl 2 rfl) ?_
      refine lv_bipush (v := (nI 32)) hx hb dX2_allocate_19 (by decide) ?_
      refine gx_idiv (n := b / 32) hx hb dX2_allocate_21 (by omega) (by omega) (by omega) rfl ?_
      refine lv_istore_n (lv' := [(3, .int (nI (b / 32))), (0, .ref k), (1, .int (nI o)), (2, .int (nI b))]) hx hb dX2_allocate_22 rfl hl (by decide) rfl (fun ls hl => ?_)
      refine lv_aload_n hx hb dX2_allocate_23 rfl (lv_at hl 1 rfl) ?_
      refine lv_iload_n hx hb dX2_allocate_24 rfl (lv_at hl 2 rfl) ?_
      refine lv_iload_n hx hb dX2_allocate_25 rfl (lv_at hl 3 rfl) ?_
      refine lv_bipush (v := (nI 32)) hx hb dX2_allocate_26 (by decide) ?_
      refine lv_iload_n hx hb dX2_allocate_28 rfl (lv_at hl 0 rfl) ?_
      refine gx_imul (n := 32 * (b / 32)) hx hb dX2_allocate_29 rfl ?_
      refine lv_bipush (v := (nI 32)) hx hb dX2_allocate_30 (by decide) ?_
      refine gx_iadd (n := 32 * (b / 32) + 32) hx hb dX2_allocate_32 rfl ?_
      refine gw_cS (As := [.int (nI o), .int (nI b), .int (nI (32 * (b / 32) + 32))]) (rest := []) (ci := 1) (q0 := 0) ⟨hx, hb, hml, hown, hts⟩ (mX2_search l D k kw ko cW cO G ow od o b (32 * (b / 32) + 32) ho6 (by omega) (by omega)) (cwV 3 hts (lw_V q159 q161 qs12 q21 q162) rfl rfl rfl (by decide +kernel) ⟨Nat.le_of_ble_eq_true rfl, Nat.le_of_ble_eq_true rfl⟩) hK hP rfl rfl rfl hl.1 rfl (Nat.le_of_ble_eq_true rfl) dX2_allocate_33 ⟨Nat.zero_le _, Nat.zero_le _⟩ (fun r h3 => ?_)
      refine lv_istore (lv' := [(4, .int r), (3, .int (nI (b / 32))), (0, .ref k), (1, .int (nI o)), (2, .int (nI b))]) hx hb dX2_allocate_36 hl (by decide) rfl (fun ls hl => ?_)
      refine lv_iconst (v := (nI 0)) hx hb dX2_allocate_38 (by decide) ?_
      refine lv_istore (lv' := [(5, .int (nI 0)), (4, .int r), (3, .int (nI (b / 32))), (0, .ref k), (1, .int (nI o)), (2, .int (nI b))]) hx hb dX2_allocate_39 hl (by decide) rfl (fun ls hl => ?_)
      refine gx_loopP (σ := Nat × Int32) (fun x ls => (x.1 ≤ G ∧ ((∃ p, x.2 = nI p ∧ p < 32 * G ∧ p % 2 ^ o = 0 ∧ AMp ow G o b p) ∨ (x.2 = -1 ∧ AMn ow G o b x.1))) ∧ ∃ z, lv_has ls 7 ([(5, .int (nI x.1)), (4, .int x.2), (3, .int (nI (b / 32))), (0, .ref k), (1, .int (nI o)), (2, .int (nI b))] ++ z)) (fun x => G - x.1) (0, r) ⟨⟨Nat.zero_le _, ?_⟩, [], hl⟩ ?_
      · rcases h3 with ⟨p, e, hp⟩ | ⟨e, hp⟩
        · exact Or.inl ⟨p, e, by have h9 := hp.2.1; show p < 32 * G; omega, hp.2.2.1.1, Or.inl hp⟩
        · exact Or.inr ⟨e, hp, fun c q => absurd q (Nat.not_lt_zero c)⟩
      rintro ⟨j, r⟩ ls ⟨⟨hj, hst⟩, z, hl⟩ ih
      have hj : j ≤ G := hj
      have hl : lv_has ls 7 [(5, .int (nI j)), (4, .int r), (3, .int (nI (b / 32))), (0, .ref k), (1, .int (nI o)), (2, .int (nI b))] := gl_left hl
      rcases hst with ⟨p, e, hp, hpo, hst⟩ | ⟨e, hst⟩
      · have e : r = nI p := e
        subst e
        refine lv_iload hx hb dX2_allocate_41 (lv_at hl 0 rfl) ?_
        refine lv_aload_n hx hb dX2_allocate_43 rfl (lv_at hl 3 rfl) ?_
        refine va_get (D := D) (ci := 1) (v := .int (nI G)) (C := RX2) (T := TX2) (N := 3) hx hb hts in_X2 hown hK hP 0 rfl rfl 0 (by decide) (hts _ q137) (fun _ h9 => h9) rfl dX2_allocate_44 ?_
        refine gx_icmp_ge (tgt := 92) hx hb dX2_allocate_47 (by decide) (by omega) (by omega) (fun c4 => ?_) (fun c4 => ?_)
        · refine lv_iload hx hb dX2_allocate_92 (lv_at hl 1 rfl) ?_
          refine lv_if_ge (tgt := 102) hx hb dX2_allocate_94 (by decide)  (fun c9 => ?_) (fun c9 => ?_)
          · refine lv_aload_n hx hb dX2_allocate_102 rfl (lv_at hl 3 rfl) ?_
            refine lv_iload_n hx hb dX2_allocate_103 rfl (lv_at hl 4 rfl) ?_
            refine lv_iload hx hb dX2_allocate_104 (lv_at hl 1 rfl) ?_
            refine gw_cI (wr := []) (As := [.int (nI o), .int (nI p)]) (rest := []) (ci := 1) (q0 := 0) ⟨hx, hb, hml, hown, hts⟩ (mX2_make l D k kw ko cW cO G ow od _ o p ho6 (gp_fit ho6 (by omega) hpo)) (cwV 2 hts (lw_V q171 q173 qs15 q21 q174) rfl rfl rfl (by decide +kernel) ⟨Nat.le_of_ble_eq_true rfl, Nat.le_of_ble_eq_true rfl⟩) hK hP hD hS hA [0, 1, 2] [] rfl (by decide) rfl rfl (by decide) (by decide) rfl rfl rfl hl.1 rfl (Nat.le_of_ble_eq_true rfl) dX2_allocate_106 ⟨Nat.zero_le _, Nat.zero_le _⟩ (fun r u H locs h6 hP hD hS => ?_)
            obtain ⟨u1, u2⟩ := u
            have hP : va_P D vwCl (gM k kw ko cW cO G u1 u2) H := hP
            have hD : va_D A (gM k kw ko cW cO G u1 u2) := hD
            exact W.iret (v := r) hx hb hr (fun t9 ht9 hW9 => ⟨⟨_, (u1, u2), rfl, Or.inr ⟨o, b, ho6, hb0, rfl, rfl, Or.inl ⟨p, hp, hpo, hst, h6⟩⟩, by rw [ht9]; exact hP, va_K.moved hW9.alike hK, hD⟩, hS.F ht9⟩) hS.2.2 dX2_allocate_109
          · exact absurd (nI_pos' (by omega)) c9
        · refine lv_iload hx hb dX2_allocate_50 (lv_at hl 1 rfl) ?_
          refine lv_if_ge (tgt := 92) hx hb dX2_allocate_52 (by decide)  (fun c5 => ?_) (fun c5 => ?_)
          · refine lv_iload hx hb dX2_allocate_92 (lv_at hl 1 rfl) ?_
            refine lv_if_ge (tgt := 102) hx hb dX2_allocate_94 (by decide)  (fun c9 => ?_) (fun c9 => ?_)
            · refine lv_aload_n hx hb dX2_allocate_102 rfl (lv_at hl 3 rfl) ?_
              refine lv_iload_n hx hb dX2_allocate_103 rfl (lv_at hl 4 rfl) ?_
              refine lv_iload hx hb dX2_allocate_104 (lv_at hl 1 rfl) ?_
              refine gw_cI (wr := []) (As := [.int (nI o), .int (nI p)]) (rest := []) (ci := 1) (q0 := 0) ⟨hx, hb, hml, hown, hts⟩ (mX2_make l D k kw ko cW cO G ow od _ o p ho6 (gp_fit ho6 (by omega) hpo)) (cwV 2 hts (lw_V q171 q173 qs15 q21 q174) rfl rfl rfl (by decide +kernel) ⟨Nat.le_of_ble_eq_true rfl, Nat.le_of_ble_eq_true rfl⟩) hK hP hD hS hA [0, 1, 2] [] rfl (by decide) rfl rfl (by decide) (by decide) rfl rfl rfl hl.1 rfl (Nat.le_of_ble_eq_true rfl) dX2_allocate_106 ⟨Nat.zero_le _, Nat.zero_le _⟩ (fun r u H locs h6 hP hD hS => ?_)
              obtain ⟨u1, u2⟩ := u
              have hP : va_P D vwCl (gM k kw ko cW cO G u1 u2) H := hP
              have hD : va_D A (gM k kw ko cW cO G u1 u2) := hD
              exact W.iret (v := r) hx hb hr (fun t9 ht9 hW9 => ⟨⟨_, (u1, u2), rfl, Or.inr ⟨o, b, ho6, hb0, rfl, rfl, Or.inl ⟨p, hp, hpo, hst, h6⟩⟩, by rw [ht9]; exact hP, va_K.moved hW9.alike hK, hD⟩, hS.F ht9⟩) hS.2.2 dX2_allocate_109
            · exact absurd (nI_pos' (by omega)) c9
          · exact absurd (nI_pos' (by omega)) c5
      · have e : r = -1 := e
        have hst : AMn ow G o b j := hst
        subst e
        refine lv_iload hx hb dX2_allocate_41 (lv_at hl 0 rfl) ?_
        refine lv_aload_n hx hb dX2_allocate_43 rfl (lv_at hl 3 rfl) ?_
        refine va_get (D := D) (ci := 1) (v := .int (nI G)) (C := RX2) (T := TX2) (N := 3) hx hb hts in_X2 hown hK hP 0 rfl rfl 0 (by decide) (hts _ q137) (fun _ h9 => h9) rfl dX2_allocate_44 ?_
        refine gx_icmp_ge (tgt := 92) hx hb dX2_allocate_47 (by decide) (by omega) (by omega) (fun c4 => ?_) (fun c4 => ?_)
        · refine lv_iload hx hb dX2_allocate_92 (lv_at hl 1 rfl) ?_
          refine lv_if_ge (tgt := 102) hx hb dX2_allocate_94 (by decide)  (fun c9 => ?_) (fun c9 => ?_)
          · exact absurd c9 (by decide)
          · refine lv_bipush (v := (-2)) hx hb dX2_allocate_97 (by decide) ?_
            refine lv_goto (tgt := 109) hx hb dX2_allocate_99 (by decide) ?_
            have e : j = G := by omega
            rw [e] at hst
            exact W.iret (v := (-2)) hx hb hr (fun t9 ht9 hW9 => ⟨⟨_, (ow, od), rfl, Or.inr ⟨o, b, ho6, hb0, rfl, rfl, Or.inr ⟨hst, rfl, rfl⟩⟩, by rw [ht9]; exact hP, va_K.moved hW9.alike hK, hD⟩, hS.F ht9⟩) hS.2.2 dX2_allocate_109
        · refine lv_iload hx hb dX2_allocate_50 (lv_at hl 1 rfl) ?_
          refine lv_if_ge (tgt := 92) hx hb dX2_allocate_52 (by decide)  (fun c5 => ?_) (fun c5 => ?_)
          · exact absurd c5 (by decide)
          · have hq : (b / 32 + j) % G < G := Nat.mod_lt _ (by omega)
            refine lv_iload_n hx hb dX2_allocate_55 rfl (lv_at hl 2 rfl) ?_
            refine lv_iload hx hb dX2_allocate_56 (lv_at hl 0 rfl) ?_
            refine gx_iadd (n := b / 32 + j) hx hb dX2_allocate_58 rfl ?_
            refine lv_aload_n hx hb dX2_allocate_59 rfl (lv_at hl 3 rfl) ?_
            refine va_get (D := D) (ci := 1) (v := .int (nI G)) (C := RX2) (T := TX2) (N := 3) hx hb hts in_X2 hown hK hP 0 rfl rfl 0 (by decide) (hts _ q137) (fun _ h9 => h9) rfl dX2_allocate_60 ?_
            refine gx_irem (n := (b / 32 + j) % G) hx hb dX2_allocate_63 (by omega) (by omega) (by omega) rfl ?_
            refine lv_istore (lv' := [(6, .int (nI ((b / 32 + j) % G))), (5, .int (nI j)), (4, .int (-1)), (3, .int (nI (b / 32))), (0, .ref k), (1, .int (nI o)), (2, .int (nI b))]) hx hb dX2_allocate_64 hl (by decide) rfl (fun ls hl => ?_)
            refine lv_aload_n hx hb dX2_allocate_66 rfl (lv_at hl 4 rfl) ?_
            refine lv_iload_n hx hb dX2_allocate_67 rfl (lv_at hl 5 rfl) ?_
            refine lv_bipush (v := (nI 32)) hx hb dX2_allocate_68 (by decide) ?_
            refine lv_iload hx hb dX2_allocate_70 (lv_at hl 0 rfl) ?_
            refine gx_imul (n := 32 * ((b / 32 + j) % G)) hx hb dX2_allocate_72 rfl ?_
            refine lv_bipush (v := (nI 32)) hx hb dX2_allocate_73 (by decide) ?_
            refine lv_iload hx hb dX2_allocate_75 (lv_at hl 0 rfl) ?_
            refine gx_imul (n := 32 * ((b / 32 + j) % G)) hx hb dX2_allocate_77 rfl ?_
            refine lv_bipush (v := (nI 32)) hx hb dX2_allocate_78 (by decide) ?_
            refine gx_iadd (n := 32 * ((b / 32 + j) % G) + 32) hx hb dX2_allocate_80 rfl ?_
            refine gw_cS (As := [.int (nI o), .int (nI (32 * ((b / 32 + j) % G))), .int (nI (32 * ((b / 32 + j) % G) + 32))]) (rest := []) (ci := 1) (q0 := 0) ⟨hx, hb, hml, hown, hts⟩ (mX2_search l D k kw ko cW cO G ow od o (32 * ((b / 32 + j) % G)) (32 * ((b / 32 + j) % G) + 32) ho6 (by omega) (by omega)) (cwV 3 hts (lw_V q159 q161 qs12 q21 q162) rfl rfl rfl (by decide +kernel) ⟨Nat.le_of_ble_eq_true rfl, Nat.le_of_ble_eq_true rfl⟩) hK hP rfl rfl rfl hl.1 rfl (Nat.le_of_ble_eq_true rfl) dX2_allocate_81 ⟨Nat.zero_le _, Nat.zero_le _⟩ (fun r h5 => ?_)
            refine lv_istore (lv' := [(4, .int r), (6, .int (nI ((b / 32 + j) % G))), (5, .int (nI j)), (3, .int (nI (b / 32))), (0, .ref k), (1, .int (nI o)), (2, .int (nI b))]) hx hb dX2_allocate_84 hl (by decide) rfl (fun ls hl => ?_)
            refine lv_iinc (v := (nI (j + 1))) (lv' := [(5, .int (nI (j + 1))), (4, .int r), (6, .int (nI ((b / 32 + j) % G))), (3, .int (nI (b / 32))), (0, .ref k), (1, .int (nI o)), (2, .int (nI b))]) hx hb dX2_allocate_86 hl (k := 2) rfl (gn_inc j) (by decide) rfl (fun ls hl => ?_)
            refine lv_goto (tgt := 41) hx hb dX2_allocate_89 (by decide) ?_
            refine ih (j + 1, r) ls ⟨⟨by show j + 1 ≤ G; omega, ?_⟩, [(6, _)], lv_sub hl [0, 1, 3, 4, 5, 6, 2] rfl⟩ (by show G - (j + 1) < G - j; omega)
            rcases h5 with ⟨p, e, hp⟩ | ⟨e, hp⟩
            · exact Or.inl ⟨p, e, by have h9 := hp.2.1; show p < 32 * G; omega, hp.2.2.1.1, Or.inr ⟨hst.1, j, by omega, hst.2, hp⟩⟩
            · exact Or.inr ⟨e, hst.1, lt_s hst.2 hp⟩
    · refine lv_iconst (v := (-1)) hx hb dX2_allocate_16 (by decide) ?_
      exact W.iret (v := (-1)) hx hb hr (fun t9 ht9 hW9 => ⟨⟨_, (ow, od), rfl, Or.inl ⟨fun q => c2 q.2, rfl, rfl⟩, by rw [ht9]; exact hP, va_K.moved hW9.alike hK, hD⟩, hS.F ht9⟩) hS.2.2 dX2_allocate_17
set_option maxHeartbeats 4000000 in
set_option maxRecDepth 100000 in
theorem mX2_claim (l : Launch) (D : va_G) (k kw ko : Nat) (cW cO : ClassId) (G : Nat) (ow od : Nat → Int32) (sz : Nat) (hG : G ≤ 4) (x y : Int32) : Met l yX2_claim (ws_ yX2_claim cX2_claim 3 (some .int)) ({ frames := 2, cells := 0, slots := 0, locals := 46 } : Room) (gw_Pc D (gM k kw ko cW cO G ow od) (tM cW cO) sz [.ref k, .int x, .int y]) (gw_Q D (tM cW cO) (fun u : ((Nat → Int32) × (Nat → Int32)) => gM k kw ko cW cO G u.1 u.2) (fun (r : Int32) (u : ((Nat → Int32) × (Nat → Int32))) => (¬ (okN 6 x ∧ okN (32 * G) y) ∧ r = -1 ∧ u = (ow, od)) ∨ (∃ o b, o < 6 ∧ b < 32 * G ∧ x = nI o ∧ y = nI b ∧ am_claim ow od o b r u)) (va_A (gM k kw ko cW cO G ow od) sz)) 0 0 (va_A (gM k kw ko cW cO G ow od) sz) := by
  refine gw_ofQ (gw_Q D (tM cW cO) (fun u : ((Nat → Int32) × (Nat → Int32)) => gM k kw ko cW cO G u.1 u.2) (fun (r : Int32) (u : ((Nat → Int32) × (Nat → Int32))) => (¬ (okN 6 x ∧ okN (32 * G) y) ∧ r = -1 ∧ u = (ow, od)) ∨ (∃ o b, o < 6 ∧ b < 32 * G ∧ x = nI o ∧ y = nI b ∧ am_claim ow od o b r u))) (by decide) (Nat.le_of_ble_eq_true rfl) ?_
  intro p e s m below meth c ls A hx hb hr hml hown hts hlocks _ hP hK hD hS hA hl
  have hl : lv_has ls 3 [(0, .ref k), (1, .int x), (2, .int y)] := hl
  have hown : s.vm.findClass RX2 = some m.cls := hown
  have hP : va_P D vwCl (gM k kw ko cW cO G ow od) s.heap := hP
  have hD : va_D A (gM k kw ko cW cO G ow od) := hD
  refine lv_aload_n hx hb dX2_claim_0 rfl (lv_at hl 0 rfl) ?_
  refine lv_iload_n hx hb dX2_claim_1 rfl (lv_at hl 1 rfl) ?_
  refine gw_cS (As := [.int x]) (rest := []) (ci := 1) (q0 := 0) ⟨hx, hb, hml, hown, hts⟩ (mX2_isOrder l D k kw ko cW cO G ow od x) (cwV 1 hts (lw_V q151 q153 qs10 q21 q154) rfl rfl rfl (by decide +kernel) ⟨Nat.le_of_ble_eq_true rfl, Nat.le_of_ble_eq_true rfl⟩) hK hP rfl rfl rfl hl.1 rfl (Nat.le_of_ble_eq_true rfl) dX2_claim_2 ⟨Nat.zero_le _, Nat.zero_le _⟩ (fun r h1 => ?_)
  refine gx_if_eqP (tgt := 25) hx hb dX2_claim_5 (by decide) h1 (fun c1 => ?_) (fun c1 => ?_)
  · refine lv_iconst (v := (-1)) hx hb dX2_claim_25 (by decide) ?_
    exact W.iret (v := (-1)) hx hb hr (fun t9 ht9 hW9 => ⟨⟨_, (ow, od), rfl, Or.inl ⟨fun q => c1 q.1, rfl, rfl⟩, by rw [ht9]; exact hP, va_K.moved hW9.alike hK, hD⟩, hS.F ht9⟩) hS.2.2 dX2_claim_26
  · obtain ⟨o, ho6, rfl⟩ := c1
    refine lv_aload_n hx hb dX2_claim_8 rfl (lv_at hl 0 rfl) ?_
    refine lv_iload_n hx hb dX2_claim_9 rfl (lv_at hl 2 rfl) ?_
    refine gw_cS (As := [.int y]) (rest := []) (ci := 1) (q0 := 0) ⟨hx, hb, hml, hown, hts⟩ (mX2_isBlock l D k kw ko cW cO G ow od hG y) (cwV 1 hts (lw_V q155 q157 qs11 q21 q158) rfl rfl rfl (by decide +kernel) ⟨Nat.le_of_ble_eq_true rfl, Nat.le_of_ble_eq_true rfl⟩) hK hP rfl rfl rfl hl.1 rfl (Nat.le_of_ble_eq_true rfl) dX2_claim_10 ⟨Nat.zero_le _, Nat.zero_le _⟩ (fun r h2 => ?_)
    refine gx_if_eqP (tgt := 25) hx hb dX2_claim_13 (by decide) h2 (fun c2 => ?_) (fun c2 => ?_)
    · refine lv_iconst (v := (-1)) hx hb dX2_claim_25 (by decide) ?_
      exact W.iret (v := (-1)) hx hb hr (fun t9 ht9 hW9 => ⟨⟨_, (ow, od), rfl, Or.inl ⟨fun q => c2 q.2, rfl, rfl⟩, by rw [ht9]; exact hP, va_K.moved hW9.alike hK, hD⟩, hS.F ht9⟩) hS.2.2 dX2_claim_26
    · obtain ⟨b, hb0, rfl⟩ := c2
      refine lv_aload_n hx hb dX2_claim_16 rfl (lv_at hl 0 rfl) ?_
      refine lv_iload_n hx hb dX2_claim_17 rfl (lv_at hl 1 rfl) ?_
      refine lv_iload_n hx hb dX2_claim_18 rfl (lv_at hl 2 rfl) ?_
      refine gw_cS (As := [.int (nI o), .int (nI b)]) (rest := []) (ci := 1) (q0 := 0) ⟨hx, hb, hml, hown, hts⟩ (mX2_isRun l D k kw ko cW cO G ow od o b ho6 (by omega)) (cwV 2 hts (lw_V q163 q165 qs13 q21 q166) rfl rfl rfl (by decide +kernel) ⟨Nat.le_of_ble_eq_true rfl, Nat.le_of_ble_eq_true rfl⟩) hK hP rfl rfl rfl hl.1 rfl (Nat.le_of_ble_eq_true rfl) dX2_claim_19 ⟨Nat.zero_le _, Nat.zero_le _⟩ (fun r h3 => ?_)
      refine gx_if_neP (tgt := 27) hx hb dX2_claim_22 (by decide) h3 (fun c3 => ?_) (fun c3 => ?_)
      · have hft := gp_fit ho6 (by omega) c3
        refine lv_aload_n hx hb dX2_claim_27 rfl (lv_at hl 0 rfl) ?_
        refine lv_iload_n hx hb dX2_claim_28 rfl (lv_at hl 2 rfl) ?_
        refine lv_iconst (v := (nI 1)) hx hb dX2_claim_29 (by decide) ?_
        refine lv_iload_n hx hb dX2_claim_30 rfl (lv_at hl 1 rfl) ?_
        refine gx_ishl (n := 2 ^ o) hx hb dX2_claim_31 (by omega) (Nat.one_mul _) (gp_lt (by omega)) ?_
        refine gw_cS (As := [.int (nI b), .int (nI (2 ^ o))]) (rest := []) (ci := 1) (q0 := 0) ⟨hx, hb, hml, hown, hts⟩ (mX2_free l D k kw ko cW cO G ow od b (2 ^ o) hft) (cwV 2 hts (lw_V q167 q169 qs14 q21 q170) rfl rfl rfl (by decide +kernel) ⟨Nat.le_of_ble_eq_true rfl, Nat.le_of_ble_eq_true rfl⟩) hK hP rfl rfl rfl hl.1 rfl (Nat.le_of_ble_eq_true rfl) dX2_claim_32 ⟨Nat.zero_le _, Nat.zero_le _⟩ (fun r h4 => ?_)
        refine gx_if_eqP (tgt := 47) hx hb dX2_claim_35 (by decide) h4 (fun c4 => ?_) (fun c4 => ?_)
        · refine lv_bipush (v := (-2)) hx hb dX2_claim_47 (by decide) ?_
          exact W.iret (v := (-2)) hx hb hr (fun t9 ht9 hW9 => ⟨⟨_, (ow, od), rfl, Or.inr ⟨o, b, ho6, hb0, rfl, rfl, Or.inr (Or.inl ⟨c3, c4, rfl, rfl⟩)⟩, by rw [ht9]; exact hP, va_K.moved hW9.alike hK, hD⟩, hS.F ht9⟩) hS.2.2 dX2_claim_49
        · refine lv_aload_n hx hb dX2_claim_38 rfl (lv_at hl 0 rfl) ?_
          refine lv_iload_n hx hb dX2_claim_39 rfl (lv_at hl 1 rfl) ?_
          refine lv_iload_n hx hb dX2_claim_40 rfl (lv_at hl 2 rfl) ?_
          refine gw_cI (wr := []) (As := [.int (nI o), .int (nI b)]) (rest := []) (ci := 1) (q0 := 0) ⟨hx, hb, hml, hown, hts⟩ (mX2_make l D k kw ko cW cO G ow od _ o b ho6 hft) (cwV 2 hts (lw_V q171 q173 qs15 q21 q174) rfl rfl rfl (by decide +kernel) ⟨Nat.le_of_ble_eq_true rfl, Nat.le_of_ble_eq_true rfl⟩) hK hP hD hS hA [0, 1, 2] [] rfl (by decide) rfl rfl (by decide) (by decide) rfl rfl rfl hl.1 rfl (Nat.le_of_ble_eq_true rfl) dX2_claim_41 ⟨Nat.zero_le _, Nat.zero_le _⟩ (fun r u H locs h6 hP hD hS => ?_)
          refine lv_goto (tgt := 49) hx hb dX2_claim_44 (by decide) ?_
          obtain ⟨u1, u2⟩ := u
          have hP : va_P D vwCl (gM k kw ko cW cO G u1 u2) H := hP
          have hD : va_D A (gM k kw ko cW cO G u1 u2) := hD
          exact W.iret (v := r) hx hb hr (fun t9 ht9 hW9 => ⟨⟨_, (u1, u2), rfl, Or.inr ⟨o, b, ho6, hb0, rfl, rfl, Or.inr (Or.inr ⟨c3, c4, h6⟩)⟩, by rw [ht9]; exact hP, va_K.moved hW9.alike hK, hD⟩, hS.F ht9⟩) hS.2.2 dX2_claim_49
      · refine lv_iconst (v := (-1)) hx hb dX2_claim_25 (by decide) ?_
        exact W.iret (v := (-1)) hx hb hr (fun t9 ht9 hW9 => ⟨⟨_, (ow, od), rfl, Or.inr ⟨o, b, ho6, hb0, rfl, rfl, Or.inl ⟨c3, rfl, rfl⟩⟩, by rw [ht9]; exact hP, va_K.moved hW9.alike hK, hD⟩, hS.F ht9⟩) hS.2.2 dX2_claim_26
set_option maxHeartbeats 4000000 in
set_option maxRecDepth 100000 in
theorem mX2_release (l : Launch) (D : va_G) (k kw ko : Nat) (cW cO : ClassId) (G : Nat) (ow od : Nat → Int32) (sz : Nat) (hG : G ≤ 4) (hw : wfM G ow od) (x : Int32) : Met l yX2_release (ws_ yX2_release cX2_release 2 (some .int)) ({ frames := 2, cells := 0, slots := 0, locals := 42 } : Room) (gw_Pc D (gM k kw ko cW cO G ow od) (tM cW cO) sz [.ref k, .int x]) (gw_Q D (tM cW cO) (fun u : ((Nat → Int32) × (Nat → Int32)) => gM k kw ko cW cO G u.1 u.2) (fun (r : Int32) (u : ((Nat → Int32) × (Nat → Int32))) => (¬ okF G ow x ∧ r = -1 ∧ u = (ow, od)) ∨ (∃ b, b < 32 * G ∧ x = nI b ∧ ow b = nI b ∧ am_rel ow od b r u)) (va_A (gM k kw ko cW cO G ow od) sz)) 0 0 (va_A (gM k kw ko cW cO G ow od) sz) := by
  refine gw_ofQ (gw_Q D (tM cW cO) (fun u : ((Nat → Int32) × (Nat → Int32)) => gM k kw ko cW cO G u.1 u.2) (fun (r : Int32) (u : ((Nat → Int32) × (Nat → Int32))) => (¬ okF G ow x ∧ r = -1 ∧ u = (ow, od)) ∨ (∃ b, b < 32 * G ∧ x = nI b ∧ ow b = nI b ∧ am_rel ow od b r u))) (by decide) (Nat.le_of_ble_eq_true rfl) ?_
  intro p e s m below meth c ls A hx hb hr hml hown hts hlocks _ hP hK hD hS hA hl
  have hl : lv_has ls 2 [(0, .ref k), (1, .int x)] := hl
  have hown : s.vm.findClass RX2 = some m.cls := hown
  have hP : va_P D vwCl (gM k kw ko cW cO G ow od) s.heap := hP
  have hD : va_D A (gM k kw ko cW cO G ow od) := hD
  refine lv_aload_n hx hb dX2_release_0 rfl (lv_at hl 0 rfl) ?_
  refine lv_iload_n hx hb dX2_release_1 rfl (lv_at hl 1 rfl) ?_
  refine gw_cS (As := [.int x]) (rest := []) (ci := 1) (q0 := 0) ⟨hx, hb, hml, hown, hts⟩ (mX2_isExtent l D k kw ko cW cO G ow od hG x) (cwV 1 hts (lw_V q187 q189 qs17 q21 q190) rfl rfl rfl (by decide +kernel) ⟨Nat.le_of_ble_eq_true rfl, Nat.le_of_ble_eq_true rfl⟩) hK hP rfl rfl rfl hl.1 rfl (Nat.le_of_ble_eq_true rfl) dX2_release_2 ⟨Nat.zero_le _, Nat.zero_le _⟩ (fun r h1 => ?_)
  refine gx_if_neP (tgt := 10) hx hb dX2_release_5 (by decide) h1 (fun c1 => ?_) (fun c1 => ?_)
  · obtain ⟨b, hb0, rfl, hc⟩ := c1
    obtain ⟨o, ho6, eo, hal⟩ := hw b hb0 hc
    have hft := gp_fit ho6 (by omega) hal
    have h1o : 0 < 2 ^ o := Nat.two_pow_pos o
    refine lv_aload_n hx hb dX2_release_10 rfl (lv_at hl 0 rfl) ?_
    refine lv_iload_n hx hb dX2_release_11 rfl (lv_at hl 1 rfl) ?_
    refine lv_iconst (v := (nI 1)) hx hb dX2_release_12 (by decide) ?_
    refine lv_aload_n hx hb dX2_release_13 rfl (lv_at hl 0 rfl) ?_
    refine va_get (D := D) (ci := 1) (v := .ref ko) (C := RX2) (T := TX2) (N := 3) hx hb hts in_X2 hown hK hP 0 rfl rfl 2 (by decide) (hts _ q139) (fun _ h9 => h9) rfl dX2_release_14 ?_
    refine lv_iload_n hx hb dX2_release_17 rfl (lv_at hl 1 rfl) ?_
    refine gx_iald hx hb hK hP 2 1 rfl rfl (by omega) (by decide) dX2_release_18 ?_
    refine gx_top (y := (nI o)) (eo) ?_
    refine gx_ishl (n := 2 ^ o) hx hb dX2_release_19 (by omega) (Nat.one_mul _) (gp_lt (by omega)) ?_
    refine lv_iconst (v := (-1)) hx hb dX2_release_20 (by decide) ?_
    refine gw_cV (wr := []) (As := [.int (nI b), .int (nI (2 ^ o)), .int (-1)]) (rest := []) (ci := 1) (q0 := 0) ⟨hx, hb, hml, hown, hts⟩ (mX2_fill l D k kw ko cW cO G ow od _ b (2 ^ o) (-1) hft) (cwV 3 hts (lw_V q175 q177 qs16 q21 q178) rfl rfl rfl (by decide +kernel) ⟨Nat.le_of_ble_eq_true rfl, Nat.le_of_ble_eq_true rfl⟩) hK hP hD hS hA [0, 1, 2] [] rfl (by decide) rfl rfl (by decide) (by decide) rfl rfl rfl hl.1 rfl (Nat.le_of_ble_eq_true rfl) dX2_release_21 ⟨Nat.zero_le _, Nat.zero_le _⟩ (fun u H locs h2 hP hD hS => ?_)
    subst h2
    have hP : va_P D vwCl (gM k kw ko cW cO G (flF ow b (2 ^ o) (-1)) od) H := hP
    have hD : va_D A (gM k kw ko cW cO G (flF ow b (2 ^ o) (-1)) od) := hD
    refine lv_aload_n hx hb dX2_release_24 rfl (lv_at hl 0 rfl) ?_
    refine va_get (D := D) (ci := 1) (v := .ref ko) (C := RX2) (T := TX2) (N := 3) hx hb hts in_X2 hown hK hP 0 rfl rfl 2 (by decide) (hts _ q139) (fun _ h9 => h9) rfl dX2_release_25 ?_
    refine lv_iload_n hx hb dX2_release_28 rfl (lv_at hl 1 rfl) ?_
    refine gx_iald hx hb hK hP 2 1 rfl rfl (by omega) (by decide) dX2_release_29 ?_
    exact W.iret (v := (od b)) hx hb hr (fun t9 ht9 hW9 => ⟨⟨_, (flF ow b (2 ^ o) (-1), od), rfl, Or.inr ⟨b, hb0, rfl, hc, o, ho6, eo, eo, rfl⟩, by rw [ht9]; exact hP, va_K.moved hW9.alike hK, hD⟩, hS.F ht9⟩) hS.2.2 dX2_release_30
  · refine lv_iconst (v := (-1)) hx hb dX2_release_8 (by decide) ?_
    exact W.iret (v := (-1)) hx hb hr (fun t9 ht9 hW9 => ⟨⟨_, (ow, od), rfl, Or.inl ⟨c1, rfl, rfl⟩, by rw [ht9]; exact hP, va_K.moved hW9.alike hK, hD⟩, hS.F ht9⟩) hS.2.2 dX2_release_9
set_option maxHeartbeats 4000000 in
set_option maxRecDepth 100000 in
theorem mX2_grow (l : Launch) (D : va_G) (k kw ko : Nat) (cW cO : ClassId) (G : Nat) (ow od : Nat → Int32) (sz : Nat) (hG : G ≤ 4) (hw : wfM G ow od) (x : Int32) : Met l yX2_grow (ws_ yX2_grow cX2_grow 3 (some .int)) ({ frames := 2, cells := 0, slots := 0, locals := 46 } : Room) (gw_Pc D (gM k kw ko cW cO G ow od) (tM cW cO) sz [.ref k, .int x]) (gw_Q D (tM cW cO) (fun u : ((Nat → Int32) × (Nat → Int32)) => gM k kw ko cW cO G u.1 u.2) (fun (r : Int32) (u : ((Nat → Int32) × (Nat → Int32))) => (¬ okF G ow x ∧ r = -1 ∧ u = (ow, od)) ∨ (∃ b, b < 32 * G ∧ x = nI b ∧ ow b = nI b ∧ am_grow ow od b r u)) (va_A (gM k kw ko cW cO G ow od) sz)) 0 0 (va_A (gM k kw ko cW cO G ow od) sz) := by
  refine gw_ofQ (gw_Q D (tM cW cO) (fun u : ((Nat → Int32) × (Nat → Int32)) => gM k kw ko cW cO G u.1 u.2) (fun (r : Int32) (u : ((Nat → Int32) × (Nat → Int32))) => (¬ okF G ow x ∧ r = -1 ∧ u = (ow, od)) ∨ (∃ b, b < 32 * G ∧ x = nI b ∧ ow b = nI b ∧ am_grow ow od b r u))) (by decide) (Nat.le_of_ble_eq_true rfl) ?_
  intro p e s m below meth c ls A hx hb hr hml hown hts hlocks _ hP hK hD hS hA hl
  have hl : lv_has ls 3 [(0, .ref k), (1, .int x)] := hl
  have hown : s.vm.findClass RX2 = some m.cls := hown
  have hP : va_P D vwCl (gM k kw ko cW cO G ow od) s.heap := hP
  have hD : va_D A (gM k kw ko cW cO G ow od) := hD
  refine lv_aload_n hx hb dX2_grow_0 rfl (lv_at hl 0 rfl) ?_
  refine lv_iload_n hx hb dX2_grow_1 rfl (lv_at hl 1 rfl) ?_
  refine gw_cS (As := [.int x]) (rest := []) (ci := 1) (q0 := 0) ⟨hx, hb, hml, hown, hts⟩ (mX2_isExtent l D k kw ko cW cO G ow od hG x) (cwV 1 hts (lw_V q187 q189 qs17 q21 q190) rfl rfl rfl (by decide +kernel) ⟨Nat.le_of_ble_eq_true rfl, Nat.le_of_ble_eq_true rfl⟩) hK hP rfl rfl rfl hl.1 rfl (Nat.le_of_ble_eq_true rfl) dX2_grow_2 ⟨Nat.zero_le _, Nat.zero_le _⟩ (fun r h1 => ?_)
  refine gx_if_neP (tgt := 10) hx hb dX2_grow_5 (by decide) h1 (fun c1 => ?_) (fun c1 => ?_)
  · obtain ⟨b, hb0, rfl, hc⟩ := c1
    obtain ⟨o, ho6, eo, hal⟩ := hw b hb0 hc
    have hft := gp_fit ho6 (by omega) hal
    have h1o : 0 < 2 ^ o := Nat.two_pow_pos o
    refine lv_aload_n hx hb dX2_grow_10 rfl (lv_at hl 0 rfl) ?_
    refine va_get (D := D) (ci := 1) (v := .ref ko) (C := RX2) (T := TX2) (N := 3) hx hb hts in_X2 hown hK hP 0 rfl rfl 2 (by decide) (hts _ q139) (fun _ h9 => h9) rfl dX2_grow_11 ?_
    refine lv_iload_n hx hb dX2_grow_14 rfl (lv_at hl 1 rfl) ?_
    refine gx_iald hx hb hK hP 2 1 rfl rfl (by omega) (by decide) dX2_grow_15 ?_
    refine gx_top (y := (nI o)) (eo) ?_
    refine lv_istore_n (lv' := [(2, .int (nI o)), (0, .ref k), (1, .int (nI b))]) hx hb dX2_grow_16 rfl hl (by decide) rfl (fun ls hl => ?_)
    refine lv_iload_n hx hb dX2_grow_17 rfl (lv_at hl 0 rfl) ?_
    refine lv_iconst (v := (nI 5)) hx hb dX2_grow_18 (by decide) ?_
    refine gx_icmp_eq (tgt := 48) hx hb dX2_grow_19 (by decide) (by omega) (by omega) (fun c2 => ?_) (fun c2 => ?_)
    · refine lv_bipush (v := (-2)) hx hb dX2_grow_48 (by decide) ?_
      exact W.iret (v := (-2)) hx hb hr (fun t9 ht9 hW9 => ⟨⟨_, (ow, od), rfl, Or.inr ⟨b, hb0, rfl, hc, o, ho6, eo, Or.inl ⟨Or.inl c2, rfl, rfl⟩⟩, by rw [ht9]; exact hP, va_K.moved hW9.alike hK, hD⟩, hS.F ht9⟩) hS.2.2 dX2_grow_50
    · refine lv_aload_n hx hb dX2_grow_22 rfl (lv_at hl 1 rfl) ?_
      refine lv_iload_n hx hb dX2_grow_23 rfl (lv_at hl 0 rfl) ?_
      refine lv_iconst (v := (nI 1)) hx hb dX2_grow_24 (by decide) ?_
      refine gx_iadd (n := o + 1) hx hb dX2_grow_25 rfl ?_
      refine lv_iload_n hx hb dX2_grow_26 rfl (lv_at hl 2 rfl) ?_
      refine gw_cS (As := [.int (nI (o + 1)), .int (nI b)]) (rest := []) (ci := 1) (q0 := 0) ⟨hx, hb, hml, hown, hts⟩ (mX2_isRun l D k kw ko cW cO G ow od (o + 1) b (by omega) (by omega)) (cwV 2 hts (lw_V q163 q165 qs13 q21 q166) rfl rfl rfl (by decide +kernel) ⟨Nat.le_of_ble_eq_true rfl, Nat.le_of_ble_eq_true rfl⟩) hK hP rfl rfl rfl hl.1 rfl (Nat.le_of_ble_eq_true rfl) dX2_grow_27 ⟨Nat.zero_le _, Nat.zero_le _⟩ (fun r h2 => ?_)
      refine gx_if_eqP (tgt := 48) hx hb dX2_grow_30 (by decide) h2 (fun c3 => ?_) (fun c3 => ?_)
      · refine lv_bipush (v := (-2)) hx hb dX2_grow_48 (by decide) ?_
        exact W.iret (v := (-2)) hx hb hr (fun t9 ht9 hW9 => ⟨⟨_, (ow, od), rfl, Or.inr ⟨b, hb0, rfl, hc, o, ho6, eo, Or.inl ⟨Or.inr (Or.inl c3), rfl, rfl⟩⟩, by rw [ht9]; exact hP, va_K.moved hW9.alike hK, hD⟩, hS.F ht9⟩) hS.2.2 dX2_grow_50
      · have hf2 := gp_fit2 (show o < 5 by omega) (by omega) c3
        refine lv_aload_n hx hb dX2_grow_33 rfl (lv_at hl 1 rfl) ?_
        refine lv_iload_n hx hb dX2_grow_34 rfl (lv_at hl 2 rfl) ?_
        refine lv_iconst (v := (nI 1)) hx hb dX2_grow_35 (by decide) ?_
        refine lv_iload_n hx hb dX2_grow_36 rfl (lv_at hl 0 rfl) ?_
        refine gx_ishl (n := 2 ^ o) hx hb dX2_grow_37 (by omega) (Nat.one_mul _) (gp_lt (by omega)) ?_
        refine gx_iadd (n := b + 2 ^ o) hx hb dX2_grow_38 rfl ?_
        refine lv_iconst (v := (nI 1)) hx hb dX2_grow_39 (by decide) ?_
        refine lv_iload_n hx hb dX2_grow_40 rfl (lv_at hl 0 rfl) ?_
        refine gx_ishl (n := 2 ^ o) hx hb dX2_grow_41 (by omega) (Nat.one_mul _) (gp_lt (by omega)) ?_
        refine gw_cS (As := [.int (nI (b + 2 ^ o)), .int (nI (2 ^ o))]) (rest := []) (ci := 1) (q0 := 0) ⟨hx, hb, hml, hown, hts⟩ (mX2_free l D k kw ko cW cO G ow od (b + 2 ^ o) (2 ^ o) hf2) (cwV 2 hts (lw_V q167 q169 qs14 q21 q170) rfl rfl rfl (by decide +kernel) ⟨Nat.le_of_ble_eq_true rfl, Nat.le_of_ble_eq_true rfl⟩) hK hP rfl rfl rfl hl.1 rfl (Nat.le_of_ble_eq_true rfl) dX2_grow_42 ⟨Nat.zero_le _, Nat.zero_le _⟩ (fun r h3 => ?_)
        refine gx_if_neP (tgt := 51) hx hb dX2_grow_45 (by decide) h3 (fun c4 => ?_) (fun c4 => ?_)
        · refine lv_aload_n hx hb dX2_grow_51 rfl (lv_at hl 1 rfl) ?_
          refine lv_iload_n hx hb dX2_grow_52 rfl (lv_at hl 0 rfl) ?_
          refine lv_iconst (v := (nI 1)) hx hb dX2_grow_53 (by decide) ?_
          refine gx_iadd (n := o + 1) hx hb dX2_grow_54 rfl ?_
          refine lv_iload_n hx hb dX2_grow_55 rfl (lv_at hl 2 rfl) ?_
          refine gw_cI (wr := []) (As := [.int (nI (o + 1)), .int (nI b)]) (rest := []) (ci := 1) (q0 := 0) ⟨hx, hb, hml, hown, hts⟩ (mX2_make l D k kw ko cW cO G ow od _ (o + 1) b (by omega) (gp_fit (by omega) (by omega) c3)) (cwV 2 hts (lw_V q171 q173 qs15 q21 q174) rfl rfl rfl (by decide +kernel) ⟨Nat.le_of_ble_eq_true rfl, Nat.le_of_ble_eq_true rfl⟩) hK hP hD hS hA [0, 1, 2] [] rfl (by decide) rfl rfl (by decide) (by decide) rfl rfl rfl hl.1 rfl (Nat.le_of_ble_eq_true rfl) dX2_grow_56 ⟨Nat.zero_le _, Nat.zero_le _⟩ (fun r u H locs h4 hP hD hS => ?_)
          obtain ⟨-, rfl⟩ := h4
          have hP : va_P D vwCl (gM k kw ko cW cO G (flF ow b (2 ^ (o + 1)) (nI b)) (upd od b (nI (o + 1)))) H := hP
          have hD : va_D A (gM k kw ko cW cO G (flF ow b (2 ^ (o + 1)) (nI b)) (upd od b (nI (o + 1)))) := hD
          refine lv_pop hx hb dX2_grow_59 rfl ?_
          refine lv_iload_n hx hb dX2_grow_60 rfl (lv_at hl 0 rfl) ?_
          refine lv_iconst (v := (nI 1)) hx hb dX2_grow_61 (by decide) ?_
          refine gx_iadd (n := o + 1) hx hb dX2_grow_62 rfl ?_
          exact W.iret (v := (nI (o + 1))) hx hb hr (fun t9 ht9 hW9 => ⟨⟨_, (flF ow b (2 ^ (o + 1)) (nI b), upd od b (nI (o + 1))), rfl, Or.inr ⟨b, hb0, rfl, hc, o, ho6, eo, Or.inr ⟨by omega, c3, c4, rfl, rfl⟩⟩, by rw [ht9]; exact hP, va_K.moved hW9.alike hK, hD⟩, hS.F ht9⟩) hS.2.2 dX2_grow_63
        · refine lv_bipush (v := (-2)) hx hb dX2_grow_48 (by decide) ?_
          exact W.iret (v := (-2)) hx hb hr (fun t9 ht9 hW9 => ⟨⟨_, (ow, od), rfl, Or.inr ⟨b, hb0, rfl, hc, o, ho6, eo, Or.inl ⟨Or.inr (Or.inr c4), rfl, rfl⟩⟩, by rw [ht9]; exact hP, va_K.moved hW9.alike hK, hD⟩, hS.F ht9⟩) hS.2.2 dX2_grow_50
  · refine lv_iconst (v := (-1)) hx hb dX2_grow_8 (by decide) ?_
    exact W.iret (v := (-1)) hx hb hr (fun t9 ht9 hW9 => ⟨⟨_, (ow, od), rfl, Or.inl ⟨c1, rfl, rfl⟩, by rw [ht9]; exact hP, va_K.moved hW9.alike hK, hD⟩, hS.F ht9⟩) hS.2.2 dX2_grow_9
set_option maxHeartbeats 4000000 in
set_option maxRecDepth 100000 in
theorem mX2_halve (l : Launch) (D : va_G) (k kw ko : Nat) (cW cO : ClassId) (G : Nat) (ow od : Nat → Int32) (sz : Nat) (hG : G ≤ 4) (hw : wfM G ow od) (x : Int32) : Met l yX2_halve (ws_ yX2_halve cX2_halve 3 (some .int)) ({ frames := 2, cells := 0, slots := 0, locals := 46 } : Room) (gw_Pc D (gM k kw ko cW cO G ow od) (tM cW cO) sz [.ref k, .int x]) (gw_Q D (tM cW cO) (fun u : ((Nat → Int32) × (Nat → Int32)) => gM k kw ko cW cO G u.1 u.2) (fun (r : Int32) (u : ((Nat → Int32) × (Nat → Int32))) => (¬ okF G ow x ∧ r = -1 ∧ u = (ow, od)) ∨ (∃ b, b < 32 * G ∧ x = nI b ∧ ow b = nI b ∧ am_halve ow od b r u)) (va_A (gM k kw ko cW cO G ow od) sz)) 0 0 (va_A (gM k kw ko cW cO G ow od) sz) := by
  refine gw_ofQ (gw_Q D (tM cW cO) (fun u : ((Nat → Int32) × (Nat → Int32)) => gM k kw ko cW cO G u.1 u.2) (fun (r : Int32) (u : ((Nat → Int32) × (Nat → Int32))) => (¬ okF G ow x ∧ r = -1 ∧ u = (ow, od)) ∨ (∃ b, b < 32 * G ∧ x = nI b ∧ ow b = nI b ∧ am_halve ow od b r u))) (by decide) (Nat.le_of_ble_eq_true rfl) ?_
  intro p e s m below meth c ls A hx hb hr hml hown hts hlocks _ hP hK hD hS hA hl
  have hl : lv_has ls 3 [(0, .ref k), (1, .int x)] := hl
  have hown : s.vm.findClass RX2 = some m.cls := hown
  have hP : va_P D vwCl (gM k kw ko cW cO G ow od) s.heap := hP
  have hD : va_D A (gM k kw ko cW cO G ow od) := hD
  refine lv_aload_n hx hb dX2_halve_0 rfl (lv_at hl 0 rfl) ?_
  refine lv_iload_n hx hb dX2_halve_1 rfl (lv_at hl 1 rfl) ?_
  refine gw_cS (As := [.int x]) (rest := []) (ci := 1) (q0 := 0) ⟨hx, hb, hml, hown, hts⟩ (mX2_isExtent l D k kw ko cW cO G ow od hG x) (cwV 1 hts (lw_V q187 q189 qs17 q21 q190) rfl rfl rfl (by decide +kernel) ⟨Nat.le_of_ble_eq_true rfl, Nat.le_of_ble_eq_true rfl⟩) hK hP rfl rfl rfl hl.1 rfl (Nat.le_of_ble_eq_true rfl) dX2_halve_2 ⟨Nat.zero_le _, Nat.zero_le _⟩ (fun r h1 => ?_)
  refine gx_if_neP (tgt := 10) hx hb dX2_halve_5 (by decide) h1 (fun c1 => ?_) (fun c1 => ?_)
  · obtain ⟨b, hb0, rfl, hc⟩ := c1
    obtain ⟨o, ho6, eo, hal⟩ := hw b hb0 hc
    have hft := gp_fit ho6 (by omega) hal
    have h1o : 0 < 2 ^ o := Nat.two_pow_pos o
    refine lv_aload_n hx hb dX2_halve_10 rfl (lv_at hl 0 rfl) ?_
    refine va_get (D := D) (ci := 1) (v := .ref ko) (C := RX2) (T := TX2) (N := 3) hx hb hts in_X2 hown hK hP 0 rfl rfl 2 (by decide) (hts _ q139) (fun _ h9 => h9) rfl dX2_halve_11 ?_
    refine lv_iload_n hx hb dX2_halve_14 rfl (lv_at hl 1 rfl) ?_
    refine gx_iald hx hb hK hP 2 1 rfl rfl (by omega) (by decide) dX2_halve_15 ?_
    refine gx_top (y := (nI o)) (eo) ?_
    refine lv_istore_n (lv' := [(2, .int (nI o)), (0, .ref k), (1, .int (nI b))]) hx hb dX2_halve_16 rfl hl (by decide) rfl (fun ls hl => ?_)
    refine lv_iload_n hx hb dX2_halve_17 rfl (lv_at hl 0 rfl) ?_
    refine gx_if_neN (tgt := 24) hx hb dX2_halve_18 (by decide) (by omega) (fun c2 => ?_) (fun c2 => ?_)
    · obtain ⟨q, rfl⟩ : ∃ q, o = q + 1 := ⟨o - 1, by omega⟩
      have hp2 : 2 ^ (q + 1) = 2 ^ q * 2 := Nat.pow_succ 2 q
      refine lv_aload_n hx hb dX2_halve_24 rfl (lv_at hl 1 rfl) ?_
      refine lv_iload_n hx hb dX2_halve_25 rfl (lv_at hl 2 rfl) ?_
      refine lv_iconst (v := (nI 1)) hx hb dX2_halve_26 (by decide) ?_
      refine lv_iload_n hx hb dX2_halve_27 rfl (lv_at hl 0 rfl) ?_
      refine gx_ishl (n := 2 ^ (q + 1)) hx hb dX2_halve_28 (by omega) (Nat.one_mul _) (gp_lt (by omega)) ?_
      refine lv_iconst (v := (-1)) hx hb dX2_halve_29 (by decide) ?_
      refine gw_cV (wr := []) (As := [.int (nI b), .int (nI (2 ^ (q + 1))), .int (-1)]) (rest := []) (ci := 1) (q0 := 0) ⟨hx, hb, hml, hown, hts⟩ (mX2_fill l D k kw ko cW cO G ow od _ b (2 ^ (q + 1)) (-1) hft) (cwV 3 hts (lw_V q175 q177 qs16 q21 q178) rfl rfl rfl (by decide +kernel) ⟨Nat.le_of_ble_eq_true rfl, Nat.le_of_ble_eq_true rfl⟩) hK hP hD hS hA [0, 1, 2] [] rfl (by decide) rfl rfl (by decide) (by decide) rfl rfl rfl hl.1 rfl (Nat.le_of_ble_eq_true rfl) dX2_halve_30 ⟨Nat.zero_le _, Nat.zero_le _⟩ (fun u H locs h2 hP hD hS => ?_)
      subst h2
      have hP : va_P D vwCl (gM k kw ko cW cO G (flF ow b (2 ^ (q + 1)) (-1)) od) H := hP
      have hD : va_D A (gM k kw ko cW cO G (flF ow b (2 ^ (q + 1)) (-1)) od) := hD
      refine lv_aload_n hx hb dX2_halve_33 rfl (lv_at hl 1 rfl) ?_
      refine lv_iload_n hx hb dX2_halve_34 rfl (lv_at hl 0 rfl) ?_
      refine lv_iconst (v := (nI 1)) hx hb dX2_halve_35 (by decide) ?_
      refine gx_isub (n := q) hx hb dX2_halve_36 rfl ?_
      refine lv_iload_n hx hb dX2_halve_37 rfl (lv_at hl 2 rfl) ?_
      refine gw_cI (wr := []) (As := [.int (nI q), .int (nI b)]) (rest := []) (ci := 1) (q0 := 0) ⟨hx, hb, hml, hown, hts⟩ (mX2_make l D k kw ko cW cO G (flF ow b (2 ^ (q + 1)) (-1)) od _ q b (by omega) (by omega)) (cwV 2 hts (lw_V q171 q173 qs15 q21 q174) rfl rfl rfl (by decide +kernel) ⟨Nat.le_of_ble_eq_true rfl, Nat.le_of_ble_eq_true rfl⟩) hK hP hD hS hA [0, 1, 2] [] rfl (by decide) rfl rfl (by decide) (by decide) rfl rfl rfl hl.1 rfl (Nat.le_of_ble_eq_true rfl) dX2_halve_38 ⟨Nat.zero_le _, Nat.zero_le _⟩ (fun r u H locs h4 hP hD hS => ?_)
      obtain ⟨-, rfl⟩ := h4
      have hP : va_P D vwCl (gM k kw ko cW cO G (flF (flF ow b (2 ^ (q + 1)) (-1)) b (2 ^ q) (nI b)) (upd od b (nI q))) H := hP
      have hD : va_D A (gM k kw ko cW cO G (flF (flF ow b (2 ^ (q + 1)) (-1)) b (2 ^ q) (nI b)) (upd od b (nI q))) := hD
      refine lv_pop hx hb dX2_halve_41 rfl ?_
      refine lv_iload_n hx hb dX2_halve_42 rfl (lv_at hl 0 rfl) ?_
      refine lv_iconst (v := (nI 1)) hx hb dX2_halve_43 (by decide) ?_
      refine gx_isub (n := q) hx hb dX2_halve_44 rfl ?_
      exact W.iret (v := (nI q)) hx hb hr (fun t9 ht9 hW9 => ⟨⟨_, (flF (flF ow b (2 ^ (q + 1)) (-1)) b (2 ^ q) (nI b), upd od b (nI q)), rfl, Or.inr ⟨b, hb0, rfl, hc, q + 1, ho6, eo, Or.inr ⟨q, rfl, rfl, rfl⟩⟩, by rw [ht9]; exact hP, va_K.moved hW9.alike hK, hD⟩, hS.F ht9⟩) hS.2.2 dX2_halve_45
    · refine lv_bipush (v := (-2)) hx hb dX2_halve_21 (by decide) ?_
      exact W.iret (v := (-2)) hx hb hr (fun t9 ht9 hW9 => ⟨⟨_, (ow, od), rfl, Or.inr ⟨b, hb0, rfl, hc, o, ho6, eo, Or.inl ⟨c2, rfl, rfl⟩⟩, by rw [ht9]; exact hP, va_K.moved hW9.alike hK, hD⟩, hS.F ht9⟩) hS.2.2 dX2_halve_23
  · refine lv_iconst (v := (-1)) hx hb dX2_halve_8 (by decide) ?_
    exact W.iret (v := (-1)) hx hb hr (fun t9 ht9 hW9 => ⟨⟨_, (ow, od), rfl, Or.inl ⟨c1, rfl, rfl⟩, by rw [ht9]; exact hP, va_K.moved hW9.alike hK, hD⟩, hS.F ht9⟩) hS.2.2 dX2_halve_9
set_option maxHeartbeats 4000000 in
set_option maxRecDepth 100000 in
theorem mX2_extentOf (l : Launch) (D : va_G) (k kw ko : Nat) (cW cO : ClassId) (G : Nat) (ow od : Nat → Int32) (hG : G ≤ 4) (x : Int32) : Met l yX2_extentOf (ws_ yX2_extentOf cX2_extentOf 2 (some .int)) ({ frames := 1, cells := 0, slots := 0, locals := 21 } : Room) (gw_Ps D (gM k kw ko cW cO G ow od) (tM cW cO) [.ref k, .int x]) (vp_Si (fun r => (¬ okN (32 * G) x ∧ r = -1) ∨ (∃ b, b < 32 * G ∧ x = nI b ∧ ((ow b = -1 ∧ r = -2) ∨ (¬ ow b = -1 ∧ r = ow b))))) 0 0 (fun _ => False) := by
  refine gw_ofS (by decide) (Nat.le_of_ble_eq_true rfl) ?_
  intro p e s m below meth c ls hx hb hr hml hown hts hlocks hP hK hl
  have hl : lv_has ls 2 [(0, .ref k), (1, .int x)] := hl
  have hown : s.vm.findClass RX2 = some m.cls := hown
  refine lv_aload_n hx hb dX2_extentOf_0 rfl (lv_at hl 0 rfl) ?_
  refine lv_iload_n hx hb dX2_extentOf_1 rfl (lv_at hl 1 rfl) ?_
  refine gw_cS (As := [.int x]) (rest := []) (ci := 1) (q0 := 0) ⟨hx, hb, hml, hown, hts⟩ (mX2_isBlock l D k kw ko cW cO G ow od hG x) (cwV 1 hts (lw_V q155 q157 qs11 q21 q158) rfl rfl rfl (by decide +kernel) ⟨Nat.le_of_ble_eq_true rfl, Nat.le_of_ble_eq_true rfl⟩) hK hP rfl rfl rfl hl.1 rfl (Nat.le_of_ble_eq_true rfl) dX2_extentOf_2 ⟨Nat.zero_le _, Nat.zero_le _⟩ (fun r h1 => ?_)
  refine gx_if_neP (tgt := 10) hx hb dX2_extentOf_5 (by decide) h1 (fun c1 => ?_) (fun c1 => ?_)
  · obtain ⟨b, hb0, rfl⟩ := c1
    refine lv_aload_n hx hb dX2_extentOf_10 rfl (lv_at hl 0 rfl) ?_
    refine va_get (D := D) (ci := 1) (v := .ref kw) (C := RX2) (T := TX2) (N := 3) hx hb hts in_X2 hown hK hP 0 rfl rfl 1 (by decide) (hts _ q138) (fun _ h9 => h9) rfl dX2_extentOf_11 ?_
    refine lv_iload_n hx hb dX2_extentOf_14 rfl (lv_at hl 1 rfl) ?_
    refine gx_iald hx hb hK hP 1 0 rfl rfl (by omega) (by decide) dX2_extentOf_15 ?_
    refine lv_iconst (v := (-1)) hx hb dX2_extentOf_16 (by decide) ?_
    refine lv_icmp_ne (tgt := 25) hx hb dX2_extentOf_17 (by decide)  (fun c2 => ?_) (fun c2 => ?_)
    · refine lv_aload_n hx hb dX2_extentOf_25 rfl (lv_at hl 0 rfl) ?_
      refine va_get (D := D) (ci := 1) (v := .ref kw) (C := RX2) (T := TX2) (N := 3) hx hb hts in_X2 hown hK hP 0 rfl rfl 1 (by decide) (hts _ q138) (fun _ h9 => h9) rfl dX2_extentOf_26 ?_
      refine lv_iload_n hx hb dX2_extentOf_29 rfl (lv_at hl 1 rfl) ?_
      refine gx_iald hx hb hK hP 1 0 rfl rfl (by omega) (by decide) dX2_extentOf_30 ?_
      exact W.iret (v := (ow b)) hx hb hr (fun t9 ht9 hW9 => ⟨_, rfl, Or.inr ⟨b, hb0, rfl, Or.inr ⟨c2, rfl⟩⟩, ht9⟩) (fun q h => absurd h List.not_mem_nil) dX2_extentOf_31
    · refine lv_bipush (v := (-2)) hx hb dX2_extentOf_20 (by decide) ?_
      refine lv_goto (tgt := 31) hx hb dX2_extentOf_22 (by decide) ?_
      exact W.iret (v := (-2)) hx hb hr (fun t9 ht9 hW9 => ⟨_, rfl, Or.inr ⟨b, hb0, rfl, Or.inl ⟨c2, rfl⟩⟩, ht9⟩) (fun q h => absurd h List.not_mem_nil) dX2_extentOf_31
  · refine lv_iconst (v := (-1)) hx hb dX2_extentOf_8 (by decide) ?_
    exact W.iret (v := (-1)) hx hb hr (fun t9 ht9 hW9 => ⟨_, rfl, Or.inl ⟨c1, rfl⟩, ht9⟩) (fun q h => absurd h List.not_mem_nil) dX2_extentOf_9
set_option maxHeartbeats 4000000 in
set_option maxRecDepth 100000 in
theorem mX2_freeBlocks (l : Launch) (D : va_G) (k kw ko : Nat) (cW cO : ClassId) (G : Nat) (ow od : Nat → Int32) (hG : G ≤ 4) (x : Int32) : Met l yX2_freeBlocks (ws_ yX2_freeBlocks cX2_freeBlocks 4 (some .int)) ({ frames := 1, cells := 0, slots := 0, locals := 21 } : Room) (gw_Ps D (gM k kw ko cW cO G ow od) (tM cW cO) [.ref k, .int x]) (vp_Si (fun r => (¬ okN G x ∧ r = -1) ∨ (∃ g, g < G ∧ x = nI g ∧ r = nI (fb_ct (fun t => decide (ow (32 * g + t) = -1)) 32)))) 0 0 (fun _ => False) := by
  refine gw_ofS (by decide) (Nat.le_of_ble_eq_true rfl) ?_
  intro p e s m below meth c ls hx hb hr hml hown hts hlocks hP hK hl
  have hl : lv_has ls 4 [(0, .ref k), (1, .int x)] := hl
  have hown : s.vm.findClass RX2 = some m.cls := hown
  refine lv_aload_n hx hb dX2_freeBlocks_0 rfl (lv_at hl 0 rfl) ?_
  refine lv_iload_n hx hb dX2_freeBlocks_1 rfl (lv_at hl 1 rfl) ?_
  refine gw_cS (As := [.int x]) (rest := []) (ci := 1) (q0 := 0) ⟨hx, hb, hml, hown, hts⟩ (mX2_isGroup l D k kw ko cW cO G ow od hG x) (cwV 1 hts (lw_V q207 q209 qs18 q21 q210) rfl rfl rfl (by decide +kernel) ⟨Nat.le_of_ble_eq_true rfl, Nat.le_of_ble_eq_true rfl⟩) hK hP rfl rfl rfl hl.1 rfl (Nat.le_of_ble_eq_true rfl) dX2_freeBlocks_2 ⟨Nat.zero_le _, Nat.zero_le _⟩ (fun r h1 => ?_)
  refine gx_if_neP (tgt := 10) hx hb dX2_freeBlocks_5 (by decide) h1 (fun c1 => ?_) (fun c1 => ?_)
  · obtain ⟨g, hg, rfl⟩ := c1
    refine lv_iconst (v := (nI 0)) hx hb dX2_freeBlocks_10 (by decide) ?_
    refine lv_istore_n (lv' := [(2, .int (nI 0)), (0, .ref k), (1, .int (nI g))]) hx hb dX2_freeBlocks_11 rfl hl (by decide) rfl (fun ls hl => ?_)
    refine lv_bipush (v := (nI 32)) hx hb dX2_freeBlocks_12 (by decide) ?_
    refine lv_iload_n hx hb dX2_freeBlocks_14 rfl (lv_at hl 2 rfl) ?_
    refine gx_imul (n := 32 * g) hx hb dX2_freeBlocks_15 rfl ?_
    refine lv_istore_n (lv' := [(3, .int (nI (32 * g))), (2, .int (nI 0)), (0, .ref k), (1, .int (nI g))]) hx hb dX2_freeBlocks_16 rfl hl (by decide) rfl (fun ls hl => ?_)
    refine gx_loopP (σ := Nat) (fun t ls => t ≤ 32 ∧ lv_has ls 4 [(3, .int (nI (32 * g + t))), (2, .int (nI (fb_ct (fun t => decide (ow (32 * g + t) = -1)) t))), (0, .ref k), (1, .int (nI g))]) (fun t => 32 - t) 0 ⟨Nat.zero_le _, hl⟩ ?_
    intro t ls ⟨ht, hl⟩ ih
    refine lv_iload_n hx hb dX2_freeBlocks_17 rfl (lv_at hl 0 rfl) ?_
    refine lv_bipush (v := (nI 32)) hx hb dX2_freeBlocks_18 (by decide) ?_
    refine lv_iload_n hx hb dX2_freeBlocks_20 rfl (lv_at hl 3 rfl) ?_
    refine gx_imul (n := 32 * g) hx hb dX2_freeBlocks_21 rfl ?_
    refine lv_bipush (v := (nI 32)) hx hb dX2_freeBlocks_22 (by decide) ?_
    refine gx_iadd (n := 32 * g + 32) hx hb dX2_freeBlocks_24 rfl ?_
    refine gx_icmp_ge (tgt := 47) hx hb dX2_freeBlocks_25 (by decide) (by omega) (by omega) (fun c2 => ?_) (fun c2 => ?_)
    · refine lv_iload_n hx hb dX2_freeBlocks_47 rfl (lv_at hl 1 rfl) ?_
      have e : t = 32 := by omega
      subst e
      exact W.iret (v := (nI (fb_ct (fun t => decide (ow (32 * g + t) = -1)) 32))) hx hb hr (fun t9 ht9 hW9 => ⟨_, rfl, Or.inr ⟨g, hg, rfl, rfl⟩, ht9⟩) (fun q h => absurd h List.not_mem_nil) dX2_freeBlocks_48
    · refine lv_aload_n hx hb dX2_freeBlocks_28 rfl (lv_at hl 2 rfl) ?_
      refine va_get (D := D) (ci := 1) (v := .ref kw) (C := RX2) (T := TX2) (N := 3) hx hb hts in_X2 hown hK hP 0 rfl rfl 1 (by decide) (hts _ q138) (fun _ h9 => h9) rfl dX2_freeBlocks_29 ?_
      refine lv_iload_n hx hb dX2_freeBlocks_32 rfl (lv_at hl 0 rfl) ?_
      refine gx_iald hx hb hK hP 1 0 rfl rfl (by omega) (by decide) dX2_freeBlocks_33 ?_
      refine lv_iconst (v := (-1)) hx hb dX2_freeBlocks_34 (by decide) ?_
      refine lv_icmp_ne (tgt := 41) hx hb dX2_freeBlocks_35 (by decide)  (fun c3 => ?_) (fun c3 => ?_)
      · refine lv_iinc (v := (nI (32 * g + t + 1))) (lv' := [(3, .int (nI (32 * g + t + 1))), (2, .int (nI (fb_ct (fun t => decide (ow (32 * g + t) = -1)) t))), (0, .ref k), (1, .int (nI g))]) hx hb dX2_freeBlocks_41 hl (k := 0) rfl (gn_inc (32 * g + t)) (by decide) rfl (fun ls hl => ?_)
        refine lv_goto (tgt := 17) hx hb dX2_freeBlocks_44 (by decide) ?_
        have e := fb_no (p := fun t => decide (ow (32 * g + t) = -1)) (t := t) (decide_eq_false c3)
        exact ih (t + 1) ls ⟨by omega, by rw [← e]; exact lv_sub hl [0, 1, 2, 3] rfl⟩ (by omega)
      · refine lv_iinc (v := (nI (fb_ct (fun t => decide (ow (32 * g + t) = -1)) t + 1))) (lv' := [(2, .int (nI (fb_ct (fun t => decide (ow (32 * g + t) = -1)) t + 1))), (3, .int (nI (32 * g + t))), (0, .ref k), (1, .int (nI g))]) hx hb dX2_freeBlocks_38 hl (k := 1) rfl (gn_inc (fb_ct (fun t => decide (ow (32 * g + t) = -1)) t)) (by decide) rfl (fun ls hl => ?_)
        refine lv_iinc (v := (nI (32 * g + t + 1))) (lv' := [(3, .int (nI (32 * g + t + 1))), (2, .int (nI (fb_ct (fun t => decide (ow (32 * g + t) = -1)) t + 1))), (0, .ref k), (1, .int (nI g))]) hx hb dX2_freeBlocks_41 hl (k := 1) rfl (gn_inc (32 * g + t)) (by decide) rfl (fun ls hl => ?_)
        refine lv_goto (tgt := 17) hx hb dX2_freeBlocks_44 (by decide) ?_
        have e := fb_up (p := fun t => decide (ow (32 * g + t) = -1)) (t := t) (decide_eq_true c3)
        exact ih (t + 1) ls ⟨by omega, by rw [← e]; exact lv_sub hl [0, 1, 2, 3] rfl⟩ (by omega)
  · refine lv_iconst (v := (-1)) hx hb dX2_freeBlocks_8 (by decide) ?_
    exact W.iret (v := (-1)) hx hb hr (fun t9 ht9 hW9 => ⟨_, rfl, Or.inl ⟨c1, rfl⟩, ht9⟩) (fun q h => absurd h List.not_mem_nil) dX2_freeBlocks_9
/-- what the model's largestFree answers of the group g -/
def XLm (ow : Nat → Int32) (g : Nat) (r : Int32) : Prop := (∃ o, o < 6 ∧ r = nI o ∧ (∃ p, MSf ow o (32 * g) (32 * g + 32) p) ∧ ∀ q, o < q → q < 6 → MSn ow q (32 * g) (32 * g + 32)) ∨ (r = -2 ∧ ∀ q, q < 6 → MSn ow q (32 * g) (32 * g + 32))
set_option maxHeartbeats 4000000 in
set_option maxRecDepth 100000 in
theorem mX2_largestFree (l : Launch) (D : va_G) (k kw ko : Nat) (cW cO : ClassId) (G : Nat) (ow od : Nat → Int32) (hG : G ≤ 4) (x : Int32) : Met l yX2_largestFree (ws_ yX2_largestFree cX2_largestFree 4 (some .int)) ({ frames := 2, cells := 0, slots := 0, locals := 47 } : Room) (gw_Ps D (gM k kw ko cW cO G ow od) (tM cW cO) [.ref k, .int x]) (vp_Si (fun r => (¬ okN G x ∧ r = -1) ∨ (∃ g, g < G ∧ x = nI g ∧ XLm ow g r))) 0 0 (fun _ => False) := by
  refine gw_ofS (by decide) (Nat.le_of_ble_eq_true rfl) ?_
  intro p e s m below meth c ls hx hb hr hml hown hts hlocks hP hK hl
  have hl : lv_has ls 4 [(0, .ref k), (1, .int x)] := hl
  have hown : s.vm.findClass RX2 = some m.cls := hown
  refine lv_aload_n hx hb dX2_largestFree_0 rfl (lv_at hl 0 rfl) ?_
  refine lv_iload_n hx hb dX2_largestFree_1 rfl (lv_at hl 1 rfl) ?_
  refine gw_cS (As := [.int x]) (rest := []) (ci := 1) (q0 := 0) ⟨hx, hb, hml, hown, hts⟩ (mX2_isGroup l D k kw ko cW cO G ow od hG x) (cwV 1 hts (lw_V q207 q209 qs18 q21 q210) rfl rfl rfl (by decide +kernel) ⟨Nat.le_of_ble_eq_true rfl, Nat.le_of_ble_eq_true rfl⟩) hK hP rfl rfl rfl hl.1 rfl (Nat.le_of_ble_eq_true rfl) dX2_largestFree_2 ⟨Nat.zero_le _, Nat.zero_le _⟩ (fun r h1 => ?_)
  refine gx_if_neP (tgt := 10) hx hb dX2_largestFree_5 (by decide) h1 (fun c1 => ?_) (fun c1 => ?_)
  · obtain ⟨g, hg, rfl⟩ := c1
    refine lv_iconst (v := (nI 5)) hx hb dX2_largestFree_10 (by decide) ?_
    refine gx_top (y := (gd 6)) ((gd_s 5).symm) ?_
    refine lv_istore_n (lv' := [(2, .int (gd 6)), (0, .ref k), (1, .int (nI g))]) hx hb dX2_largestFree_11 rfl hl (by decide) rfl (fun ls hl => ?_)
    refine gx_loopP (σ := Nat) (fun t ls => (t ≤ 6 ∧ ∀ q, t ≤ q → q < 6 → MSn ow q (32 * g) (32 * g + 32)) ∧ ∃ z, lv_has ls 4 ([(2, .int (gd t)), (0, .ref k), (1, .int (nI g))] ++ z)) (fun t => t) 6 ⟨⟨Nat.le_refl _, fun q h1 h2 => by omega⟩, [], hl⟩ ?_
    intro t ls ⟨⟨ht, hn⟩, z, hl⟩ ih
    have hl : lv_has ls 4 [(2, .int (gd t)), (0, .ref k), (1, .int (nI g))] := gl_left hl
    rcases t with _ | t
    · have hl : lv_has ls 4 [(2, .int (-1)), (0, .ref k), (1, .int (nI g))] := hl
      refine lv_iload_n hx hb dX2_largestFree_12 rfl (lv_at hl 0 rfl) ?_
      refine lv_if_lt (tgt := 45) hx hb dX2_largestFree_13 (by decide)  (fun c3 => ?_) (fun c3 => ?_)
      · refine lv_bipush (v := (-2)) hx hb dX2_largestFree_45 (by decide) ?_
        exact W.iret (v := (-2)) hx hb hr (fun t9 ht9 hW9 => ⟨_, rfl, Or.inr ⟨g, hg, rfl, Or.inr ⟨rfl, fun q h2 => hn q (Nat.zero_le _) h2⟩⟩, ht9⟩) (fun q h => absurd h List.not_mem_nil) dX2_largestFree_47
      · exact absurd (by decide) c3
    · rw [gd_s] at hl
      refine lv_iload_n hx hb dX2_largestFree_12 rfl (lv_at hl 0 rfl) ?_
      refine lv_if_lt (tgt := 45) hx hb dX2_largestFree_13 (by decide)  (fun c3 => ?_) (fun c3 => ?_)
      · exact absurd c3 (gn_nlt (by omega))
      · refine lv_aload_n hx hb dX2_largestFree_16 rfl (lv_at hl 1 rfl) ?_
        refine lv_iload_n hx hb dX2_largestFree_17 rfl (lv_at hl 0 rfl) ?_
        refine lv_bipush (v := (nI 32)) hx hb dX2_largestFree_18 (by decide) ?_
        refine lv_iload_n hx hb dX2_largestFree_20 rfl (lv_at hl 2 rfl) ?_
        refine gx_imul (n := 32 * g) hx hb dX2_largestFree_21 rfl ?_
        refine lv_bipush (v := (nI 32)) hx hb dX2_largestFree_22 (by decide) ?_
        refine lv_iload_n hx hb dX2_largestFree_24 rfl (lv_at hl 2 rfl) ?_
        refine gx_imul (n := 32 * g) hx hb dX2_largestFree_25 rfl ?_
        refine lv_bipush (v := (nI 32)) hx hb dX2_largestFree_26 (by decide) ?_
        refine gx_iadd (n := 32 * g + 32) hx hb dX2_largestFree_28 rfl ?_
        refine gw_cS (As := [.int (nI t), .int (nI (32 * g)), .int (nI (32 * g + 32))]) (rest := []) (ci := 1) (q0 := 0) ⟨hx, hb, hml, hown, hts⟩ (mX2_search l D k kw ko cW cO G ow od t (32 * g) (32 * g + 32) (by omega) (by omega) (by omega)) (cwV 3 hts (lw_V q159 q161 qs12 q21 q162) rfl rfl rfl (by decide +kernel) ⟨Nat.le_of_ble_eq_true rfl, Nat.le_of_ble_eq_true rfl⟩) hK hP rfl rfl rfl hl.1 rfl (Nat.le_of_ble_eq_true rfl) dX2_largestFree_29 ⟨Nat.zero_le _, Nat.zero_le _⟩ (fun r h4 => ?_)
        rcases h4 with ⟨p, rfl, hp⟩ | ⟨rfl, hp⟩
        · refine lv_istore_n (lv' := [(3, .int (nI p)), (2, .int (nI t)), (0, .ref k), (1, .int (nI g))]) hx hb dX2_largestFree_32 rfl hl (by decide) rfl (fun ls hl => ?_)
          refine lv_iload_n hx hb dX2_largestFree_33 rfl (lv_at hl 0 rfl) ?_
          refine lv_if_lt (tgt := 39) hx hb dX2_largestFree_34 (by decide)  (fun c4 => ?_) (fun c4 => ?_)
          · exact absurd c4 (gn_nlt (by have := hp.2.1; omega))
          · refine lv_iload_n hx hb dX2_largestFree_37 rfl (lv_at hl 1 rfl) ?_
            exact W.iret (v := (nI t)) hx hb hr (fun t9 ht9 hW9 => ⟨_, rfl, Or.inr ⟨g, hg, rfl, Or.inl ⟨t, by omega, rfl, ⟨p, hp⟩, fun q h1 h2 => hn q h1 h2⟩⟩, ht9⟩) (fun q h => absurd h List.not_mem_nil) dX2_largestFree_38
        · refine lv_istore_n (lv' := [(3, .int (-1)), (2, .int (nI t)), (0, .ref k), (1, .int (nI g))]) hx hb dX2_largestFree_32 rfl hl (by decide) rfl (fun ls hl => ?_)
          refine lv_iload_n hx hb dX2_largestFree_33 rfl (lv_at hl 0 rfl) ?_
          refine lv_if_lt (tgt := 39) hx hb dX2_largestFree_34 (by decide)  (fun c4 => ?_) (fun c4 => ?_)
          · refine lv_iinc (v := (gd t)) (lv' := [(2, .int (gd t)), (3, .int (-1)), (0, .ref k), (1, .int (nI g))]) hx hb dX2_largestFree_39 hl (k := 1) rfl (gd_dec t) (by decide) rfl (fun ls hl => ?_)
            refine lv_goto (tgt := 12) hx hb dX2_largestFree_42 (by decide) ?_
            exact ih t ls ⟨⟨by omega, fun q h1 h2 => by rcases Nat.lt_or_ge t q with z | z; exact hn q z h2; rw [show q = t by omega]; exact hp⟩, [(3, _)], lv_sub hl [0, 2, 3, 1] rfl⟩ (Nat.lt_succ_self t)
          · exact absurd (by decide) c4
  · refine lv_iconst (v := (-1)) hx hb dX2_largestFree_8 (by decide) ?_
    exact W.iret (v := (-1)) hx hb hr (fun t9 ht9 hW9 => ⟨_, rfl, Or.inl ⟨c1, rfl⟩, ht9⟩) (fun q h => absurd h List.not_mem_nil) dX2_largestFree_9
set_option maxHeartbeats 4000000 in
set_option maxRecDepth 100000 in
theorem mX2_freeRuns (l : Launch) (D : va_G) (k kw ko : Nat) (cW cO : ClassId) (G : Nat) (ow od : Nat → Int32) (hG : G ≤ 4) (x : Int32) : Met l yX2_freeRuns (ws_ yX2_freeRuns cX2_freeRuns 4 (some .int)) ({ frames := 1, cells := 0, slots := 0, locals := 23 } : Room) (gw_Ps D (gM k kw ko cW cO G ow od) (tM cW cO) [.ref k, .int x]) (vp_Si (fun r => (¬ okN 6 x ∧ r = -1) ∨ (∃ o, o < 6 ∧ x = nI o ∧ r = nI (fb_ct (rnB ow o) (32 * G))))) 0 0 (fun _ => False) := by
  refine gw_ofS (by decide) (Nat.le_of_ble_eq_true rfl) ?_
  intro p e s m below meth c ls hx hb hr hml hown hts hlocks hP hK hl
  have hl : lv_has ls 4 [(0, .ref k), (1, .int x)] := hl
  have hown : s.vm.findClass RX2 = some m.cls := hown
  refine lv_aload_n hx hb dX2_freeRuns_0 rfl (lv_at hl 0 rfl) ?_
  refine lv_iload_n hx hb dX2_freeRuns_1 rfl (lv_at hl 1 rfl) ?_
  refine gw_cS (As := [.int x]) (rest := []) (ci := 1) (q0 := 0) ⟨hx, hb, hml, hown, hts⟩ (mX2_isOrder l D k kw ko cW cO G ow od x) (cwV 1 hts (lw_V q151 q153 qs10 q21 q154) rfl rfl rfl (by decide +kernel) ⟨Nat.le_of_ble_eq_true rfl, Nat.le_of_ble_eq_true rfl⟩) hK hP rfl rfl rfl hl.1 rfl (Nat.le_of_ble_eq_true rfl) dX2_freeRuns_2 ⟨Nat.zero_le _, Nat.zero_le _⟩ (fun r h1 => ?_)
  refine gx_if_neP (tgt := 10) hx hb dX2_freeRuns_5 (by decide) h1 (fun c1 => ?_) (fun c1 => ?_)
  · obtain ⟨o, ho6, rfl⟩ := c1
    refine lv_iconst (v := (nI 0)) hx hb dX2_freeRuns_10 (by decide) ?_
    refine lv_istore_n (lv' := [(2, .int (nI 0)), (0, .ref k), (1, .int (nI o))]) hx hb dX2_freeRuns_11 rfl hl (by decide) rfl (fun ls hl => ?_)
    refine lv_iconst (v := (nI 0)) hx hb dX2_freeRuns_12 (by decide) ?_
    refine lv_istore_n (lv' := [(3, .int (nI 0)), (2, .int (nI 0)), (0, .ref k), (1, .int (nI o))]) hx hb dX2_freeRuns_13 rfl hl (by decide) rfl (fun ls hl => ?_)
    refine gx_loopP (σ := Nat) (fun t ls => t ≤ 32 * G ∧ lv_has ls 4 [(3, .int (nI t)), (2, .int (nI (fb_ct (rnB ow o) t))), (0, .ref k), (1, .int (nI o))]) (fun t => 32 * G - t) 0 ⟨Nat.zero_le _, hl⟩ ?_
    intro t ls ⟨ht, hl⟩ ih
    refine lv_iload_n hx hb dX2_freeRuns_14 rfl (lv_at hl 0 rfl) ?_
    refine lv_bipush (v := (nI 32)) hx hb dX2_freeRuns_15 (by decide) ?_
    refine lv_aload_n hx hb dX2_freeRuns_17 rfl (lv_at hl 2 rfl) ?_
    refine va_get (D := D) (ci := 1) (v := .int (nI G)) (C := RX2) (T := TX2) (N := 3) hx hb hts in_X2 hown hK hP 0 rfl rfl 0 (by decide) (hts _ q137) (fun _ h9 => h9) rfl dX2_freeRuns_18 ?_
    refine gx_imul (n := 32 * G) hx hb dX2_freeRuns_21 rfl ?_
    refine gx_icmp_ge (tgt := 54) hx hb dX2_freeRuns_22 (by decide) (by omega) (by omega) (fun c2 => ?_) (fun c2 => ?_)
    · refine lv_iload_n hx hb dX2_freeRuns_54 rfl (lv_at hl 1 rfl) ?_
      have e : t = 32 * G := by omega
      subst e
      exact W.iret (v := (nI (fb_ct (rnB ow o) (32 * G)))) hx hb hr (fun t9 ht9 hW9 => ⟨_, rfl, Or.inr ⟨o, ho6, rfl, rfl⟩, ht9⟩) (fun q h => absurd h List.not_mem_nil) dX2_freeRuns_55
    · refine lv_aload_n hx hb dX2_freeRuns_25 rfl (lv_at hl 2 rfl) ?_
      refine lv_iload_n hx hb dX2_freeRuns_26 rfl (lv_at hl 3 rfl) ?_
      refine lv_iload_n hx hb dX2_freeRuns_27 rfl (lv_at hl 0 rfl) ?_
      refine gw_cS (As := [.int (nI o), .int (nI t)]) (rest := []) (ci := 1) (q0 := 0) ⟨hx, hb, hml, hown, hts⟩ (mX2_isRun l D k kw ko cW cO G ow od o t ho6 (by omega)) (cwV 2 hts (lw_V q163 q165 qs13 q21 q166) rfl rfl rfl (by decide +kernel) ⟨Nat.le_of_ble_eq_true rfl, Nat.le_of_ble_eq_true rfl⟩) hK hP rfl rfl rfl hl.1 rfl (Nat.le_of_ble_eq_true rfl) dX2_freeRuns_28 ⟨Nat.zero_le _, Nat.zero_le _⟩ (fun r h2 => ?_)
      refine gx_if_eqP (tgt := 48) hx hb dX2_freeRuns_31 (by decide) h2 (fun c3 => ?_) (fun c3 => ?_)
      · refine lv_iinc (v := (nI (t + 1))) (lv' := [(3, .int (nI (t + 1))), (2, .int (nI (fb_ct (rnB ow o) t))), (0, .ref k), (1, .int (nI o))]) hx hb dX2_freeRuns_48 hl (k := 0) rfl (gn_inc t) (by decide) rfl (fun ls hl => ?_)
        refine lv_goto (tgt := 14) hx hb dX2_freeRuns_51 (by decide) ?_
        have e := fb_no (rnB_f (ow := ow) (o := o) (b := t) (fun q => c3 q.1))
        exact ih (t + 1) ls ⟨by omega, by rw [← e]; exact lv_sub hl [0, 1, 2, 3] rfl⟩ (by omega)
      · refine lv_aload_n hx hb dX2_freeRuns_34 rfl (lv_at hl 2 rfl) ?_
        refine lv_iload_n hx hb dX2_freeRuns_35 rfl (lv_at hl 0 rfl) ?_
        refine lv_iconst (v := (nI 1)) hx hb dX2_freeRuns_36 (by decide) ?_
        refine lv_iload_n hx hb dX2_freeRuns_37 rfl (lv_at hl 3 rfl) ?_
        refine gx_ishl (n := 2 ^ o) hx hb dX2_freeRuns_38 (by omega) (Nat.one_mul _) (gp_lt (by omega)) ?_
        refine gw_cS (As := [.int (nI t), .int (nI (2 ^ o))]) (rest := []) (ci := 1) (q0 := 0) ⟨hx, hb, hml, hown, hts⟩ (mX2_free l D k kw ko cW cO G ow od t (2 ^ o) (gp_fit ho6 (by omega) c3)) (cwV 2 hts (lw_V q167 q169 qs14 q21 q170) rfl rfl rfl (by decide +kernel) ⟨Nat.le_of_ble_eq_true rfl, Nat.le_of_ble_eq_true rfl⟩) hK hP rfl rfl rfl hl.1 rfl (Nat.le_of_ble_eq_true rfl) dX2_freeRuns_39 ⟨Nat.zero_le _, Nat.zero_le _⟩ (fun r h4 => ?_)
        refine gx_if_eqP (tgt := 48) hx hb dX2_freeRuns_42 (by decide) h4 (fun c4 => ?_) (fun c4 => ?_)
        · refine lv_iinc (v := (nI (t + 1))) (lv' := [(3, .int (nI (t + 1))), (2, .int (nI (fb_ct (rnB ow o) t))), (0, .ref k), (1, .int (nI o))]) hx hb dX2_freeRuns_48 hl (k := 0) rfl (gn_inc t) (by decide) rfl (fun ls hl => ?_)
          refine lv_goto (tgt := 14) hx hb dX2_freeRuns_51 (by decide) ?_
          have e := fb_no (rnB_f (ow := ow) (o := o) (b := t) (fun q => c4 q.2))
          exact ih (t + 1) ls ⟨by omega, by rw [← e]; exact lv_sub hl [0, 1, 2, 3] rfl⟩ (by omega)
        · refine lv_iinc (v := (nI (fb_ct (rnB ow o) t + 1))) (lv' := [(2, .int (nI (fb_ct (rnB ow o) t + 1))), (3, .int (nI t)), (0, .ref k), (1, .int (nI o))]) hx hb dX2_freeRuns_45 hl (k := 1) rfl (gn_inc (fb_ct (rnB ow o) t)) (by decide) rfl (fun ls hl => ?_)
          refine lv_iinc (v := (nI (t + 1))) (lv' := [(3, .int (nI (t + 1))), (2, .int (nI (fb_ct (rnB ow o) t + 1))), (0, .ref k), (1, .int (nI o))]) hx hb dX2_freeRuns_48 hl (k := 1) rfl (gn_inc t) (by decide) rfl (fun ls hl => ?_)
          refine lv_goto (tgt := 14) hx hb dX2_freeRuns_51 (by decide) ?_
          have e := fb_up (rnB_t (ow := ow) (o := o) (b := t) ⟨c3, c4⟩)
          exact ih (t + 1) ls ⟨by omega, by rw [← e]; exact lv_sub hl [0, 1, 2, 3] rfl⟩ (by omega)
  · refine lv_iconst (v := (-1)) hx hb dX2_freeRuns_8 (by decide) ?_
    exact W.iret (v := (-1)) hx hb hr (fun t9 ht9 hW9 => ⟨_, rfl, Or.inl ⟨c1, rfl⟩, ht9⟩) (fun q h => absurd h List.not_mem_nil) dX2_freeRuns_9
set_option maxHeartbeats 4000000 in
set_option maxRecDepth 100000 in
theorem mX2_extents (l : Launch) (D : va_G) (k kw ko : Nat) (cW cO : ClassId) (G : Nat) (ow od : Nat → Int32) (hG : G ≤ 4) : Met l yX2_extents (ws_ yX2_extents cX2_extents 3 (some .int)) ({ frames := 0, cells := 0, slots := 0, locals := 0 } : Room) (gw_Ps D (gM k kw ko cW cO G ow od) (tM cW cO) [.ref k]) (vp_Si (fun r => r = nI (fb_ct (fun b => decide (ow b = nI b)) (32 * G)))) 0 0 (fun _ => False) := by
  refine gw_ofS (by decide) (Nat.le_of_ble_eq_true rfl) ?_
  intro p e s m below meth c ls hx hb hr hml hown hts hlocks hP hK hl
  have hl : lv_has ls 3 [(0, .ref k)] := hl
  have hown : s.vm.findClass RX2 = some m.cls := hown
  refine lv_iconst (v := (nI 0)) hx hb dX2_extents_0 (by decide) ?_
  refine lv_istore_n (lv' := [(1, .int (nI 0)), (0, .ref k)]) hx hb dX2_extents_1 rfl hl (by decide) rfl (fun ls hl => ?_)
  refine lv_iconst (v := (nI 0)) hx hb dX2_extents_2 (by decide) ?_
  refine lv_istore_n (lv' := [(2, .int (nI 0)), (1, .int (nI 0)), (0, .ref k)]) hx hb dX2_extents_3 rfl hl (by decide) rfl (fun ls hl => ?_)
  refine gx_loopP (σ := Nat) (fun t ls => t ≤ 32 * G ∧ lv_has ls 3 [(2, .int (nI t)), (1, .int (nI (fb_ct (fun b => decide (ow b = nI b)) t))), (0, .ref k)]) (fun t => 32 * G - t) 0 ⟨Nat.zero_le _, hl⟩ ?_
  intro t ls ⟨ht, hl⟩ ih
  refine lv_iload_n hx hb dX2_extents_4 rfl (lv_at hl 0 rfl) ?_
  refine lv_bipush (v := (nI 32)) hx hb dX2_extents_5 (by decide) ?_
  refine lv_aload_n hx hb dX2_extents_7 rfl (lv_at hl 2 rfl) ?_
  refine va_get (D := D) (ci := 1) (v := .int (nI G)) (C := RX2) (T := TX2) (N := 3) hx hb hts in_X2 hown hK hP 0 rfl rfl 0 (by decide) (hts _ q137) (fun _ h9 => h9) rfl dX2_extents_8 ?_
  refine gx_imul (n := 32 * G) hx hb dX2_extents_11 rfl ?_
  refine gx_icmp_ge (tgt := 34) hx hb dX2_extents_12 (by decide) (by omega) (by omega) (fun c2 => ?_) (fun c2 => ?_)
  · refine lv_iload_n hx hb dX2_extents_34 rfl (lv_at hl 1 rfl) ?_
    have e : t = 32 * G := by omega
    subst e
    exact W.iret (v := (nI (fb_ct (fun b => decide (ow b = nI b)) (32 * G)))) hx hb hr (fun t9 ht9 hW9 => ⟨_, rfl, rfl, ht9⟩) (fun q h => absurd h List.not_mem_nil) dX2_extents_35
  · refine lv_aload_n hx hb dX2_extents_15 rfl (lv_at hl 2 rfl) ?_
    refine va_get (D := D) (ci := 1) (v := .ref kw) (C := RX2) (T := TX2) (N := 3) hx hb hts in_X2 hown hK hP 0 rfl rfl 1 (by decide) (hts _ q138) (fun _ h9 => h9) rfl dX2_extents_16 ?_
    refine lv_iload_n hx hb dX2_extents_19 rfl (lv_at hl 0 rfl) ?_
    refine gx_iald hx hb hK hP 1 0 rfl rfl (by omega) (by decide) dX2_extents_20 ?_
    refine lv_iload_n hx hb dX2_extents_21 rfl (lv_at hl 0 rfl) ?_
    refine lv_icmp_ne (tgt := 28) hx hb dX2_extents_22 (by decide)  (fun c3 => ?_) (fun c3 => ?_)
    · refine lv_iinc (v := (nI (t + 1))) (lv' := [(2, .int (nI (t + 1))), (1, .int (nI (fb_ct (fun b => decide (ow b = nI b)) t))), (0, .ref k)]) hx hb dX2_extents_28 hl (k := 0) rfl (gn_inc t) (by decide) rfl (fun ls hl => ?_)
      refine lv_goto (tgt := 4) hx hb dX2_extents_31 (by decide) ?_
      have e := fb_no (p := fun b => decide (ow b = nI b)) (t := t) (decide_eq_false c3)
      exact ih (t + 1) ls ⟨by omega, by rw [← e]; exact lv_sub hl [0, 1, 2] rfl⟩ (by omega)
    · refine lv_iinc (v := (nI (fb_ct (fun b => decide (ow b = nI b)) t + 1))) (lv' := [(1, .int (nI (fb_ct (fun b => decide (ow b = nI b)) t + 1))), (2, .int (nI t)), (0, .ref k)]) hx hb dX2_extents_25 hl (k := 1) rfl (gn_inc (fb_ct (fun b => decide (ow b = nI b)) t)) (by decide) rfl (fun ls hl => ?_)
      refine lv_iinc (v := (nI (t + 1))) (lv' := [(2, .int (nI (t + 1))), (1, .int (nI (fb_ct (fun b => decide (ow b = nI b)) t + 1))), (0, .ref k)]) hx hb dX2_extents_28 hl (k := 1) rfl (gn_inc t) (by decide) rfl (fun ls hl => ?_)
      refine lv_goto (tgt := 4) hx hb dX2_extents_31 (by decide) ?_
      have e := fb_up (p := fun b => decide (ow b = nI b)) (t := t) (decide_eq_true c3)
      exact ih (t + 1) ls ⟨by omega, by rw [← e]; exact lv_sub hl [0, 1, 2] rfl⟩ (by omega)
end
section
/-- the number of groups that both constructors make of x -/
def clG (x : Int32) : Nat := if x < nI 1 then 1 else if nI 4 < x then 4 else x.toNatClampNeg
theorem clG_lo {x : Int32} (c : ¬ nI 1 ≤ x) : nI 1 = nI (clG x) := by
  have h : x < nI 1 := Int32.not_le.mp c
  unfold clG
  rw [if_pos h]
theorem clG_hi {x : Int32} (c : nI 1 ≤ x) (c2 : ¬ x ≤ nI 4) : nI 4 = nI (clG x) := by
  unfold clG
  rw [if_neg (Int32.not_lt.mpr c), if_pos (Int32.not_le.mp c2)]
theorem clG_mid {x : Int32} (c : nI 1 ≤ x) (c2 : x ≤ nI 4) : x = nI (clG x) := by
  have h0 : ¬ x < 0 := by
    intro h
    have h1 := Int32.lt_of_lt_of_le h (show (0 : Int32) ≤ nI 1 by decide)
    exact absurd c (Int32.not_le.mpr h1)
  obtain ⟨j, hj, rfl⟩ := nI_of h0
  unfold clG
  rw [if_neg (Int32.not_lt.mpr c), if_neg (Int32.not_lt.mpr c2), nI_clamp hj]
theorem clG_in (x : Int32) : 0 < clG x ∧ clG x ≤ 4 := by
  unfold clG
  by_cases c : x < nI 1
  · rw [if_pos c]; decide
  · rw [if_neg c]
    by_cases c2 : nI 4 < x
    · rw [if_pos c2]; decide
    · rw [if_neg c2]
      have c := Int32.not_lt.mp c
      have c2 := Int32.not_lt.mp c2
      rw [Int32.le_iff_toInt_le] at c c2
      have e1 : (nI 1).toInt = 1 := by decide
      have e4 : (nI 4).toInt = 4 := by decide
      have hc : x.toNatClampNeg = x.toInt.toNat := rfl
      omega
def fmI : Nat → Nat → Int32
  | 0 => fun _ => 0
  | g + 1 => upd (fmI g) (6 * g + 5) (nI 1)
theorem flF_s0 (ow : Nat → Int32) (t : Nat) (v : Int32) : upd (flF ow 0 t v) t v = flF ow 0 (t + 1) v := by
  have h := flF_s ow 0 t v
  rwa [Nat.zero_add] at h
abbrev neg1 : Nat → Int32 := flF (fun _ => 0) 0 128 (-1)
abbrev gI_X (D : va_G) (h : Nat) (x : Int32) (A : Nat → Prop) (u : Nat × Nat × ClassId × ClassId) (t : State) : Prop := va_P D vwCl (gX h u.1 u.2.1 u.2.2.1 u.2.2.2 (clG x) 0 0 (fmI (clG x)) neg1) t.heap ∧ va_K D vwCl (tX u.2.2.1 u.2.2.2) t ∧ va_D A (gX h u.1 u.2.1 u.2.2.1 u.2.2.2 (clG x) 0 0 (fmI (clG x)) neg1)
abbrev gI_M (D : va_G) (k : Nat) (x : Int32) (A : Nat → Prop) (u : Nat × Nat × ClassId × ClassId) (t : State) : Prop := va_P D vwCl (gM k u.1 u.2.1 u.2.2.1 u.2.2.2 (clG x) neg1 (fun _ => 0)) t.heap ∧ va_K D vwCl (tM u.2.2.1 u.2.2.2) t ∧ va_D A (gM k u.1 u.2.1 u.2.2.1 u.2.2.2 (clG x) neg1 (fun _ => 0))
set_option maxHeartbeats 400000 in
set_option maxRecDepth 100000 in
theorem mX1_init (l : Launch) (D : va_G) (h : Nat) (sz : Nat) (x : Int32) : Met l yX1_init (ws_ yX1_init cX1_init 3 none) ({ frames := 1, cells := 2, slots := 152, locals := 12 } : Room) (gw_Pc D [(h, .inr (0, [.int 0, .null, .null, .int 0, .int 0]))] [] sz [.ref h, .int x]) (va_Qv (fun _ : Nat × Nat × ClassId × ClassId => True) (gI_X D h x (va_A [(h, .inr (0, [.int 0, .null, .null, .int 0, .int 0]))] sz)) (va_A [(h, .inr (0, [.int 0, .null, .null, .int 0, .int 0]))] sz)) 2 152 (va_A [(h, .inr (0, [.int 0, .null, .null, .int 0, .int 0]))] sz) := by
  refine gw_ofQ (fun A => va_Qv (fun _ : Nat × Nat × ClassId × ClassId => True) (gI_X D h x A) A) (by decide) (Nat.le_of_ble_eq_true rfl) ?_
  intro p e s m below meth c ls A hx hb hr hml hown hts hlocks hin hP hK hD hS hA hl
  have hl : lv_has ls 3 [(0, .ref h), (1, .int x)] := hl
  have hown : s.vm.findClass RX1 = some m.cls := hown
  have hin : meth.name = "<init>" := hin
  have hP : va_P D vwCl [(h, .inr (0, [.int 0, .null, .null, .int 0, .int 0]))] s.heap := hP
  have hD : va_D A [(h, .inr (0, [.int 0, .null, .null, .int 0, .int 0]))] := hD
  refine lv_aload_n hx hb dX1_init_0 rfl (lv_at hl 0 rfl) ?_
  refine W.objInit hx hb hown (hts _ q27) (hts _ q28) (hts _ q29) rfl (by rw [hml]; exact hl.1) rfl dX1_init_1 (Nat.le_of_ble_eq_true rfl) (Nat.le_of_ble_eq_true rfl) ?_
  refine W.eq (g2 := F0 m 4 ls []) rfl ?_
  refine lv_aload_n hx hb dX1_init_4 rfl (lv_at hl 0 rfl) ?_
  refine lv_bipush (v := (nI 24)) hx hb dX1_init_5 (by decide) ?_
  refine va_newa (atype := .int) (a0 := (24, .inl (fun _ => 0))) (N' := 24) hx hb (hts _ q46) rfl hK hP hD hS hA (fun _ => rfl) (by decide) (by decide) (by decide) (Nat.le_of_ble_eq_true rfl) (Nat.le_of_ble_eq_true rfl) dX1_init_7 (fun hf cI H hK hP hD hS => ?_)
  refine W.widen (k := 1) (n := 24) (by omega) (by omega) ?_
  have hP : va_P D vwCl [(h, .inr (0, [.int 0, .null, .null, .int 0, .int 0])), (hf, .inl (cI, 24, .inl (fun _ => 0)))] H := hP
  have hD : va_D A [(h, .inr (0, [.int 0, .null, .null, .int 0, .int 0])), (hf, .inl (cI, 24, .inl (fun _ => 0)))] := hD
  have hK : va_K D vwCl [(cI, .int)] s := hK
  refine va_putF (D := D) (ci := 0) (v := .ref hf) (ty := .array .int) (C := RX1) (T := TX1) (N := 5) hx hb hts in_X1 tyX1 tyX1_ok nmX1 hown hK hP hD hS 0 rfl rfl 1 (by decide) (hts _ q31) (fun _ h9 => h9) rfl hin rfl (by decide +kernel) rfl rfl (Nat.le_of_ble_eq_true rfl) dX1_init_9 (fun H locs hP hD hS => ?_)
  have hP : va_P D vwCl [(h, .inr (0, [.int 0, .ref hf, .null, .int 0, .int 0])), (hf, .inl (cI, 24, .inl (fun _ => 0)))] H := hP
  have hD : va_D A [(h, .inr (0, [.int 0, .ref hf, .null, .int 0, .int 0])), (hf, .inl (cI, 24, .inl (fun _ => 0)))] := hD
  refine lv_aload_n hx hb dX1_init_12 rfl (lv_at hl 0 rfl) ?_
  refine lv_sipush (v := (nI 128)) hx hb dX1_init_13 (by decide) ?_
  refine va_newa (atype := .byte) (a0 := (128, .inl (fun _ => 0))) (N' := 128) hx hb (hts _ q47) rfl hK hP hD hS hA (fun _ => rfl) (by decide) (by decide) (by decide) (Nat.le_of_ble_eq_true rfl) (Nat.le_of_ble_eq_true rfl) dX1_init_16 (fun ho cB H hK hP hD hS => ?_)
  refine W.widen (k := 2) (n := 152) (by omega) (by omega) ?_
  have hP : va_P D vwCl [(h, .inr (0, [.int 0, .ref hf, .null, .int 0, .int 0])), (hf, .inl (cI, 24, .inl (fun _ => 0))), (ho, .inl (cB, 128, .inl (fun _ => 0)))] H := hP
  have hD : va_D A [(h, .inr (0, [.int 0, .ref hf, .null, .int 0, .int 0])), (hf, .inl (cI, 24, .inl (fun _ => 0))), (ho, .inl (cB, 128, .inl (fun _ => 0)))] := hD
  have hK : va_K D vwCl [(cI, .int), (cB, .byte)] s := hK
  refine va_putF (D := D) (ci := 0) (v := .ref ho) (ty := .array .byte) (C := RX1) (T := TX1) (N := 5) hx hb hts in_X1 tyX1 tyX1_ok nmX1 hown hK hP hD hS 0 rfl rfl 2 (by decide) (hts _ q32) (fun _ h9 => h9) rfl hin rfl (by decide +kernel) rfl rfl (Nat.le_of_ble_eq_true rfl) dX1_init_18 (fun H locs hP hD hS => ?_)
  have hP : va_P D vwCl [(h, .inr (0, [.int 0, .ref hf, .ref ho, .int 0, .int 0])), (hf, .inl (cI, 24, .inl (fun _ => 0))), (ho, .inl (cB, 128, .inl (fun _ => 0)))] H := hP
  have hD : va_D A [(h, .inr (0, [.int 0, .ref hf, .ref ho, .int 0, .int 0])), (hf, .inl (cI, 24, .inl (fun _ => 0))), (ho, .inl (cB, 128, .inl (fun _ => 0)))] := hD
  refine lv_aload_n hx hb dX1_init_21 rfl (lv_at hl 0 rfl) ?_
  refine lv_iload_n hx hb dX1_init_22 rfl (lv_at hl 1 rfl) ?_
  refine lv_iconst (v := (nI 1)) hx hb dX1_init_23 (by decide) ?_
  refine lv_icmp_ge (tgt := 31) hx hb dX1_init_24 (by decide)  (fun c1 => ?_) (fun c1 => ?_)
  · refine lv_iload_n hx hb dX1_init_31 rfl (lv_at hl 1 rfl) ?_
    refine lv_iconst (v := (nI 4)) hx hb dX1_init_32 (by decide) ?_
    refine lv_icmp_le (tgt := 40) hx hb dX1_init_33 (by decide)  (fun c2 => ?_) (fun c2 => ?_)
    · refine lv_iload_n hx hb dX1_init_40 rfl (lv_at hl 1 rfl) ?_
      refine gx_top (y := (nI (clG x))) (clG_mid c1 c2) ?_
      refine va_put (D := D) (ci := 0) (v := .int (nI (clG x))) (ty := .int) (C := RX1) (T := TX1) (N := 5) hx hb hts in_X1 tyX1 tyX1_ok nmX1 hown hK hP hD hS 0 rfl rfl 0 (by decide) (hts _ q30) (fun _ h9 => h9) rfl (by decide +kernel) rfl rfl (Nat.le_of_ble_eq_true rfl) dX1_init_41 (fun H locs hP hD hS => ?_)
      have hP : va_P D vwCl [(h, .inr (0, [.int (nI (clG x)), .ref hf, .ref ho, .int 0, .int 0])), (hf, .inl (cI, 24, .inl (fun _ => 0))), (ho, .inl (cB, 128, .inl (fun _ => 0)))] H := hP
      have hD : va_D A [(h, .inr (0, [.int (nI (clG x)), .ref hf, .ref ho, .int 0, .int 0])), (hf, .inl (cI, 24, .inl (fun _ => 0))), (ho, .inl (cB, 128, .inl (fun _ => 0)))] := hD
      have hG := clG_in x
      refine lv_iconst (v := (nI 0)) hx hb dX1_init_44 (by decide) ?_
      refine lv_istore_n (lv' := [(2, .int (nI 0)), (0, .ref h), (1, .int x)]) hx hb dX1_init_45 rfl hl (by decide) rfl (fun ls hl => ?_)
      refine gx_loopM (σ := Nat) (fun g H locs ls => g ≤ clG x ∧ (va_P D vwCl [(h, .inr (0, [.int (nI (clG x)), .ref hf, .ref ho, .int 0, .int 0])), (hf, .inl (cI, 24, .inl (fmI g))), (ho, .inl (cB, 128, .inl (fun _ => 0)))] H ∧ va_D A [(h, .inr (0, [.int (nI (clG x)), .ref hf, .ref ho, .int 0, .int 0])), (hf, .inl (cI, 24, .inl (fmI g))), (ho, .inl (cB, 128, .inl (fun _ => 0)))] ∧ va_S A s.heap H locs) ∧ lv_has ls 3 [(2, .int (nI g)), (0, .ref h), (1, .int x)]) (fun g => clG x - g) 0 ⟨Nat.zero_le _, ⟨hP, hD, hS⟩, hl⟩ ?_
      rintro g H locs ls ⟨hg, ⟨hP, hD, hS⟩, hl⟩ ih
      refine lv_iload_n hx hb dX1_init_46 rfl (lv_at hl 0 rfl) ?_
      refine lv_aload_n hx hb dX1_init_47 rfl (lv_at hl 1 rfl) ?_
      refine va_get (D := D) (ci := 0) (v := .int (nI (clG x))) (C := RX1) (T := TX1) (N := 5) hx hb hts in_X1 hown hK hP 0 rfl rfl 0 (by decide) (hts _ q30) (fun _ h9 => h9) rfl dX1_init_48 ?_
      refine gx_icmp_ge (tgt := 72) hx hb dX1_init_51 (by decide) (by omega) (by omega) (fun c5 => ?_) (fun c5 => ?_)
      · have e : g = clG x := by omega
        rw [e] at hP hD
        refine lv_iconst (v := (nI 0)) hx hb dX1_init_72 (by decide) ?_
        refine lv_istore_n (lv' := [(2, .int (nI 0)), (0, .ref h), (1, .int x)]) hx hb dX1_init_73 rfl hl (by decide) rfl (fun ls hl => ?_)
        refine gx_loopM (σ := Nat) (fun t H locs ls => t ≤ 128 ∧ (va_P D vwCl [(h, .inr (0, [.int (nI (clG x)), .ref hf, .ref ho, .int 0, .int 0])), (hf, .inl (cI, 24, .inl (fmI (clG x)))), (ho, .inl (cB, 128, .inl (flF (fun _ => 0) 0 t (-1))))] H ∧ va_D A [(h, .inr (0, [.int (nI (clG x)), .ref hf, .ref ho, .int 0, .int 0])), (hf, .inl (cI, 24, .inl (fmI (clG x)))), (ho, .inl (cB, 128, .inl (flF (fun _ => 0) 0 t (-1))))] ∧ va_S A s.heap H locs) ∧ lv_has ls 3 [(2, .int (nI t)), (0, .ref h), (1, .int x)]) (fun t => 128 - t) 0 ⟨Nat.zero_le _, ⟨by rw [flF_0]; exact hP, by rw [flF_0]; exact hD, hS⟩, lv_sub hl [0, 1, 2] rfl⟩ ?_
        rintro t H locs ls ⟨ht, ⟨hP, hD, hS⟩, hl⟩ ih2
        refine lv_iload_n hx hb dX1_init_74 rfl (lv_at hl 0 rfl) ?_
        refine lv_sipush (v := (nI 128)) hx hb dX1_init_75 (by decide) ?_
        refine gx_icmp_ge (tgt := 94) hx hb dX1_init_78 (by decide) (by omega) (by omega) (fun c6 => ?_) (fun c6 => ?_)
        · have e : t = 128 := by omega
          subst e
          exact W.vret hx hb hr (fun t9 ht9 hW9 => ⟨⟨(hf, ho, cI, cB), rfl, trivial, by rw [ht9]; exact hP, va_K.moved hW9.alike hK, hD⟩, hS.F ht9⟩) hS.2.2 dX1_init_94
        · refine lv_aload_n hx hb dX1_init_81 rfl (lv_at hl 1 rfl) ?_
          refine va_get (D := D) (ci := 0) (v := .ref ho) (C := RX1) (T := TX1) (N := 5) hx hb hts in_X1 hown hK hP 0 rfl rfl 2 (by decide) (hts _ q32) (fun _ h9 => h9) rfl dX1_init_82 ?_
          refine lv_iload_n hx hb dX1_init_85 rfl (lv_at hl 0 rfl) ?_
          refine lv_iconst (v := (-1)) hx hb dX1_init_86 (by decide) ?_
          refine gx_bast hx hb hK hP hD hS 2 1 rfl rfl (by omega) (by decide) (by decide) dX1_init_87 (fun H locs hP hD hS => ?_)
          have hP : va_P D vwCl [(h, .inr (0, [.int (nI (clG x)), .ref hf, .ref ho, .int 0, .int 0])), (hf, .inl (cI, 24, .inl (fmI (clG x)))), (ho, .inl (cB, 128, .inl ((upd (flF (fun _ => 0) 0 t (-1)) t ((-1))))))] H := hP
          have hD : va_D A [(h, .inr (0, [.int (nI (clG x)), .ref hf, .ref ho, .int 0, .int 0])), (hf, .inl (cI, 24, .inl (fmI (clG x)))), (ho, .inl (cB, 128, .inl ((upd (flF (fun _ => 0) 0 t (-1)) t ((-1))))))] := hD
          refine lv_iinc (v := (nI (t + 1))) (lv' := [(2, .int (nI (t + 1))), (0, .ref h), (1, .int x)]) hx hb dX1_init_88 hl (k := 0) rfl (gn_inc t) (by decide) rfl (fun ls hl => ?_)
          refine lv_goto (tgt := 74) hx hb dX1_init_91 (by decide) ?_
          rw [flF_s0] at hP hD
          exact ih2 (t + 1) _ _ ls ⟨by omega, ⟨hP, hD, hS⟩, lv_sub hl [0, 1, 2] rfl⟩ (by omega)
      · refine lv_aload_n hx hb dX1_init_54 rfl (lv_at hl 1 rfl) ?_
        refine va_get (D := D) (ci := 0) (v := .ref hf) (C := RX1) (T := TX1) (N := 5) hx hb hts in_X1 hown hK hP 0 rfl rfl 1 (by decide) (hts _ q31) (fun _ h9 => h9) rfl dX1_init_55 ?_
        refine lv_bipush (v := (nI 6)) hx hb dX1_init_58 (by decide) ?_
        refine lv_iload_n hx hb dX1_init_60 rfl (lv_at hl 0 rfl) ?_
        refine gx_imul (n := 6 * g) hx hb dX1_init_61 rfl ?_
        refine lv_iconst (v := (nI 5)) hx hb dX1_init_62 (by decide) ?_
        refine gx_iadd (n := 6 * g + 5) hx hb dX1_init_63 rfl ?_
        refine lv_iconst (v := (nI 1)) hx hb dX1_init_64 (by decide) ?_
        refine gx_iast hx hb hK hP hD hS 1 0 rfl rfl (by omega) (by decide) dX1_init_65 (fun H locs hP hD hS => ?_)
        have hP : va_P D vwCl [(h, .inr (0, [.int (nI (clG x)), .ref hf, .ref ho, .int 0, .int 0])), (hf, .inl (cI, 24, .inl ((upd (fmI g) (6 * g + 5) ((nI 1)))))), (ho, .inl (cB, 128, .inl (fun _ => 0)))] H := hP
        have hD : va_D A [(h, .inr (0, [.int (nI (clG x)), .ref hf, .ref ho, .int 0, .int 0])), (hf, .inl (cI, 24, .inl ((upd (fmI g) (6 * g + 5) ((nI 1)))))), (ho, .inl (cB, 128, .inl (fun _ => 0)))] := hD
        refine lv_iinc (v := (nI (g + 1))) (lv' := [(2, .int (nI (g + 1))), (0, .ref h), (1, .int x)]) hx hb dX1_init_66 hl (k := 0) rfl (gn_inc g) (by decide) rfl (fun ls hl => ?_)
        refine lv_goto (tgt := 46) hx hb dX1_init_69 (by decide) ?_
        exact ih (g + 1) _ _ ls ⟨by omega, ⟨hP, hD, hS⟩, lv_sub hl [0, 1, 2] rfl⟩ (by omega)
    · refine lv_iconst (v := (nI 4)) hx hb dX1_init_36 (by decide) ?_
      refine lv_goto (tgt := 41) hx hb dX1_init_37 (by decide) ?_
      refine gx_top (y := (nI (clG x))) (clG_hi c1 c2) ?_
      refine va_put (D := D) (ci := 0) (v := .int (nI (clG x))) (ty := .int) (C := RX1) (T := TX1) (N := 5) hx hb hts in_X1 tyX1 tyX1_ok nmX1 hown hK hP hD hS 0 rfl rfl 0 (by decide) (hts _ q30) (fun _ h9 => h9) rfl (by decide +kernel) rfl rfl (Nat.le_of_ble_eq_true rfl) dX1_init_41 (fun H locs hP hD hS => ?_)
      have hP : va_P D vwCl [(h, .inr (0, [.int (nI (clG x)), .ref hf, .ref ho, .int 0, .int 0])), (hf, .inl (cI, 24, .inl (fun _ => 0))), (ho, .inl (cB, 128, .inl (fun _ => 0)))] H := hP
      have hD : va_D A [(h, .inr (0, [.int (nI (clG x)), .ref hf, .ref ho, .int 0, .int 0])), (hf, .inl (cI, 24, .inl (fun _ => 0))), (ho, .inl (cB, 128, .inl (fun _ => 0)))] := hD
      have hG := clG_in x
      refine lv_iconst (v := (nI 0)) hx hb dX1_init_44 (by decide) ?_
      refine lv_istore_n (lv' := [(2, .int (nI 0)), (0, .ref h), (1, .int x)]) hx hb dX1_init_45 rfl hl (by decide) rfl (fun ls hl => ?_)
      refine gx_loopM (σ := Nat) (fun g H locs ls => g ≤ clG x ∧ (va_P D vwCl [(h, .inr (0, [.int (nI (clG x)), .ref hf, .ref ho, .int 0, .int 0])), (hf, .inl (cI, 24, .inl (fmI g))), (ho, .inl (cB, 128, .inl (fun _ => 0)))] H ∧ va_D A [(h, .inr (0, [.int (nI (clG x)), .ref hf, .ref ho, .int 0, .int 0])), (hf, .inl (cI, 24, .inl (fmI g))), (ho, .inl (cB, 128, .inl (fun _ => 0)))] ∧ va_S A s.heap H locs) ∧ lv_has ls 3 [(2, .int (nI g)), (0, .ref h), (1, .int x)]) (fun g => clG x - g) 0 ⟨Nat.zero_le _, ⟨hP, hD, hS⟩, hl⟩ ?_
      rintro g H locs ls ⟨hg, ⟨hP, hD, hS⟩, hl⟩ ih
      refine lv_iload_n hx hb dX1_init_46 rfl (lv_at hl 0 rfl) ?_
      refine lv_aload_n hx hb dX1_init_47 rfl (lv_at hl 1 rfl) ?_
      refine va_get (D := D) (ci := 0) (v := .int (nI (clG x))) (C := RX1) (T := TX1) (N := 5) hx hb hts in_X1 hown hK hP 0 rfl rfl 0 (by decide) (hts _ q30) (fun _ h9 => h9) rfl dX1_init_48 ?_
      refine gx_icmp_ge (tgt := 72) hx hb dX1_init_51 (by decide) (by omega) (by omega) (fun c5 => ?_) (fun c5 => ?_)
      · have e : g = clG x := by omega
        rw [e] at hP hD
        refine lv_iconst (v := (nI 0)) hx hb dX1_init_72 (by decide) ?_
        refine lv_istore_n (lv' := [(2, .int (nI 0)), (0, .ref h), (1, .int x)]) hx hb dX1_init_73 rfl hl (by decide) rfl (fun ls hl => ?_)
        refine gx_loopM (σ := Nat) (fun t H locs ls => t ≤ 128 ∧ (va_P D vwCl [(h, .inr (0, [.int (nI (clG x)), .ref hf, .ref ho, .int 0, .int 0])), (hf, .inl (cI, 24, .inl (fmI (clG x)))), (ho, .inl (cB, 128, .inl (flF (fun _ => 0) 0 t (-1))))] H ∧ va_D A [(h, .inr (0, [.int (nI (clG x)), .ref hf, .ref ho, .int 0, .int 0])), (hf, .inl (cI, 24, .inl (fmI (clG x)))), (ho, .inl (cB, 128, .inl (flF (fun _ => 0) 0 t (-1))))] ∧ va_S A s.heap H locs) ∧ lv_has ls 3 [(2, .int (nI t)), (0, .ref h), (1, .int x)]) (fun t => 128 - t) 0 ⟨Nat.zero_le _, ⟨by rw [flF_0]; exact hP, by rw [flF_0]; exact hD, hS⟩, lv_sub hl [0, 1, 2] rfl⟩ ?_
        rintro t H locs ls ⟨ht, ⟨hP, hD, hS⟩, hl⟩ ih2
        refine lv_iload_n hx hb dX1_init_74 rfl (lv_at hl 0 rfl) ?_
        refine lv_sipush (v := (nI 128)) hx hb dX1_init_75 (by decide) ?_
        refine gx_icmp_ge (tgt := 94) hx hb dX1_init_78 (by decide) (by omega) (by omega) (fun c6 => ?_) (fun c6 => ?_)
        · have e : t = 128 := by omega
          subst e
          exact W.vret hx hb hr (fun t9 ht9 hW9 => ⟨⟨(hf, ho, cI, cB), rfl, trivial, by rw [ht9]; exact hP, va_K.moved hW9.alike hK, hD⟩, hS.F ht9⟩) hS.2.2 dX1_init_94
        · refine lv_aload_n hx hb dX1_init_81 rfl (lv_at hl 1 rfl) ?_
          refine va_get (D := D) (ci := 0) (v := .ref ho) (C := RX1) (T := TX1) (N := 5) hx hb hts in_X1 hown hK hP 0 rfl rfl 2 (by decide) (hts _ q32) (fun _ h9 => h9) rfl dX1_init_82 ?_
          refine lv_iload_n hx hb dX1_init_85 rfl (lv_at hl 0 rfl) ?_
          refine lv_iconst (v := (-1)) hx hb dX1_init_86 (by decide) ?_
          refine gx_bast hx hb hK hP hD hS 2 1 rfl rfl (by omega) (by decide) (by decide) dX1_init_87 (fun H locs hP hD hS => ?_)
          have hP : va_P D vwCl [(h, .inr (0, [.int (nI (clG x)), .ref hf, .ref ho, .int 0, .int 0])), (hf, .inl (cI, 24, .inl (fmI (clG x)))), (ho, .inl (cB, 128, .inl ((upd (flF (fun _ => 0) 0 t (-1)) t ((-1))))))] H := hP
          have hD : va_D A [(h, .inr (0, [.int (nI (clG x)), .ref hf, .ref ho, .int 0, .int 0])), (hf, .inl (cI, 24, .inl (fmI (clG x)))), (ho, .inl (cB, 128, .inl ((upd (flF (fun _ => 0) 0 t (-1)) t ((-1))))))] := hD
          refine lv_iinc (v := (nI (t + 1))) (lv' := [(2, .int (nI (t + 1))), (0, .ref h), (1, .int x)]) hx hb dX1_init_88 hl (k := 0) rfl (gn_inc t) (by decide) rfl (fun ls hl => ?_)
          refine lv_goto (tgt := 74) hx hb dX1_init_91 (by decide) ?_
          rw [flF_s0] at hP hD
          exact ih2 (t + 1) _ _ ls ⟨by omega, ⟨hP, hD, hS⟩, lv_sub hl [0, 1, 2] rfl⟩ (by omega)
      · refine lv_aload_n hx hb dX1_init_54 rfl (lv_at hl 1 rfl) ?_
        refine va_get (D := D) (ci := 0) (v := .ref hf) (C := RX1) (T := TX1) (N := 5) hx hb hts in_X1 hown hK hP 0 rfl rfl 1 (by decide) (hts _ q31) (fun _ h9 => h9) rfl dX1_init_55 ?_
        refine lv_bipush (v := (nI 6)) hx hb dX1_init_58 (by decide) ?_
        refine lv_iload_n hx hb dX1_init_60 rfl (lv_at hl 0 rfl) ?_
        refine gx_imul (n := 6 * g) hx hb dX1_init_61 rfl ?_
        refine lv_iconst (v := (nI 5)) hx hb dX1_init_62 (by decide) ?_
        refine gx_iadd (n := 6 * g + 5) hx hb dX1_init_63 rfl ?_
        refine lv_iconst (v := (nI 1)) hx hb dX1_init_64 (by decide) ?_
        refine gx_iast hx hb hK hP hD hS 1 0 rfl rfl (by omega) (by decide) dX1_init_65 (fun H locs hP hD hS => ?_)
        have hP : va_P D vwCl [(h, .inr (0, [.int (nI (clG x)), .ref hf, .ref ho, .int 0, .int 0])), (hf, .inl (cI, 24, .inl ((upd (fmI g) (6 * g + 5) ((nI 1)))))), (ho, .inl (cB, 128, .inl (fun _ => 0)))] H := hP
        have hD : va_D A [(h, .inr (0, [.int (nI (clG x)), .ref hf, .ref ho, .int 0, .int 0])), (hf, .inl (cI, 24, .inl ((upd (fmI g) (6 * g + 5) ((nI 1)))))), (ho, .inl (cB, 128, .inl (fun _ => 0)))] := hD
        refine lv_iinc (v := (nI (g + 1))) (lv' := [(2, .int (nI (g + 1))), (0, .ref h), (1, .int x)]) hx hb dX1_init_66 hl (k := 0) rfl (gn_inc g) (by decide) rfl (fun ls hl => ?_)
        refine lv_goto (tgt := 46) hx hb dX1_init_69 (by decide) ?_
        exact ih (g + 1) _ _ ls ⟨by omega, ⟨hP, hD, hS⟩, lv_sub hl [0, 1, 2] rfl⟩ (by omega)
  · refine lv_iconst (v := (nI 1)) hx hb dX1_init_27 (by decide) ?_
    refine lv_goto (tgt := 41) hx hb dX1_init_28 (by decide) ?_
    refine gx_top (y := (nI (clG x))) (clG_lo c1) ?_
    refine va_put (D := D) (ci := 0) (v := .int (nI (clG x))) (ty := .int) (C := RX1) (T := TX1) (N := 5) hx hb hts in_X1 tyX1 tyX1_ok nmX1 hown hK hP hD hS 0 rfl rfl 0 (by decide) (hts _ q30) (fun _ h9 => h9) rfl (by decide +kernel) rfl rfl (Nat.le_of_ble_eq_true rfl) dX1_init_41 (fun H locs hP hD hS => ?_)
    have hP : va_P D vwCl [(h, .inr (0, [.int (nI (clG x)), .ref hf, .ref ho, .int 0, .int 0])), (hf, .inl (cI, 24, .inl (fun _ => 0))), (ho, .inl (cB, 128, .inl (fun _ => 0)))] H := hP
    have hD : va_D A [(h, .inr (0, [.int (nI (clG x)), .ref hf, .ref ho, .int 0, .int 0])), (hf, .inl (cI, 24, .inl (fun _ => 0))), (ho, .inl (cB, 128, .inl (fun _ => 0)))] := hD
    have hG := clG_in x
    refine lv_iconst (v := (nI 0)) hx hb dX1_init_44 (by decide) ?_
    refine lv_istore_n (lv' := [(2, .int (nI 0)), (0, .ref h), (1, .int x)]) hx hb dX1_init_45 rfl hl (by decide) rfl (fun ls hl => ?_)
    refine gx_loopM (σ := Nat) (fun g H locs ls => g ≤ clG x ∧ (va_P D vwCl [(h, .inr (0, [.int (nI (clG x)), .ref hf, .ref ho, .int 0, .int 0])), (hf, .inl (cI, 24, .inl (fmI g))), (ho, .inl (cB, 128, .inl (fun _ => 0)))] H ∧ va_D A [(h, .inr (0, [.int (nI (clG x)), .ref hf, .ref ho, .int 0, .int 0])), (hf, .inl (cI, 24, .inl (fmI g))), (ho, .inl (cB, 128, .inl (fun _ => 0)))] ∧ va_S A s.heap H locs) ∧ lv_has ls 3 [(2, .int (nI g)), (0, .ref h), (1, .int x)]) (fun g => clG x - g) 0 ⟨Nat.zero_le _, ⟨hP, hD, hS⟩, hl⟩ ?_
    rintro g H locs ls ⟨hg, ⟨hP, hD, hS⟩, hl⟩ ih
    refine lv_iload_n hx hb dX1_init_46 rfl (lv_at hl 0 rfl) ?_
    refine lv_aload_n hx hb dX1_init_47 rfl (lv_at hl 1 rfl) ?_
    refine va_get (D := D) (ci := 0) (v := .int (nI (clG x))) (C := RX1) (T := TX1) (N := 5) hx hb hts in_X1 hown hK hP 0 rfl rfl 0 (by decide) (hts _ q30) (fun _ h9 => h9) rfl dX1_init_48 ?_
    refine gx_icmp_ge (tgt := 72) hx hb dX1_init_51 (by decide) (by omega) (by omega) (fun c5 => ?_) (fun c5 => ?_)
    · have e : g = clG x := by omega
      rw [e] at hP hD
      refine lv_iconst (v := (nI 0)) hx hb dX1_init_72 (by decide) ?_
      refine lv_istore_n (lv' := [(2, .int (nI 0)), (0, .ref h), (1, .int x)]) hx hb dX1_init_73 rfl hl (by decide) rfl (fun ls hl => ?_)
      refine gx_loopM (σ := Nat) (fun t H locs ls => t ≤ 128 ∧ (va_P D vwCl [(h, .inr (0, [.int (nI (clG x)), .ref hf, .ref ho, .int 0, .int 0])), (hf, .inl (cI, 24, .inl (fmI (clG x)))), (ho, .inl (cB, 128, .inl (flF (fun _ => 0) 0 t (-1))))] H ∧ va_D A [(h, .inr (0, [.int (nI (clG x)), .ref hf, .ref ho, .int 0, .int 0])), (hf, .inl (cI, 24, .inl (fmI (clG x)))), (ho, .inl (cB, 128, .inl (flF (fun _ => 0) 0 t (-1))))] ∧ va_S A s.heap H locs) ∧ lv_has ls 3 [(2, .int (nI t)), (0, .ref h), (1, .int x)]) (fun t => 128 - t) 0 ⟨Nat.zero_le _, ⟨by rw [flF_0]; exact hP, by rw [flF_0]; exact hD, hS⟩, lv_sub hl [0, 1, 2] rfl⟩ ?_
      rintro t H locs ls ⟨ht, ⟨hP, hD, hS⟩, hl⟩ ih2
      refine lv_iload_n hx hb dX1_init_74 rfl (lv_at hl 0 rfl) ?_
      refine lv_sipush (v := (nI 128)) hx hb dX1_init_75 (by decide) ?_
      refine gx_icmp_ge (tgt := 94) hx hb dX1_init_78 (by decide) (by omega) (by omega) (fun c6 => ?_) (fun c6 => ?_)
      · have e : t = 128 := by omega
        subst e
        exact W.vret hx hb hr (fun t9 ht9 hW9 => ⟨⟨(hf, ho, cI, cB), rfl, trivial, by rw [ht9]; exact hP, va_K.moved hW9.alike hK, hD⟩, hS.F ht9⟩) hS.2.2 dX1_init_94
      · refine lv_aload_n hx hb dX1_init_81 rfl (lv_at hl 1 rfl) ?_
        refine va_get (D := D) (ci := 0) (v := .ref ho) (C := RX1) (T := TX1) (N := 5) hx hb hts in_X1 hown hK hP 0 rfl rfl 2 (by decide) (hts _ q32) (fun _ h9 => h9) rfl dX1_init_82 ?_
        refine lv_iload_n hx hb dX1_init_85 rfl (lv_at hl 0 rfl) ?_
        refine lv_iconst (v := (-1)) hx hb dX1_init_86 (by decide) ?_
        refine gx_bast hx hb hK hP hD hS 2 1 rfl rfl (by omega) (by decide) (by decide) dX1_init_87 (fun H locs hP hD hS => ?_)
        have hP : va_P D vwCl [(h, .inr (0, [.int (nI (clG x)), .ref hf, .ref ho, .int 0, .int 0])), (hf, .inl (cI, 24, .inl (fmI (clG x)))), (ho, .inl (cB, 128, .inl ((upd (flF (fun _ => 0) 0 t (-1)) t ((-1))))))] H := hP
        have hD : va_D A [(h, .inr (0, [.int (nI (clG x)), .ref hf, .ref ho, .int 0, .int 0])), (hf, .inl (cI, 24, .inl (fmI (clG x)))), (ho, .inl (cB, 128, .inl ((upd (flF (fun _ => 0) 0 t (-1)) t ((-1))))))] := hD
        refine lv_iinc (v := (nI (t + 1))) (lv' := [(2, .int (nI (t + 1))), (0, .ref h), (1, .int x)]) hx hb dX1_init_88 hl (k := 0) rfl (gn_inc t) (by decide) rfl (fun ls hl => ?_)
        refine lv_goto (tgt := 74) hx hb dX1_init_91 (by decide) ?_
        rw [flF_s0] at hP hD
        exact ih2 (t + 1) _ _ ls ⟨by omega, ⟨hP, hD, hS⟩, lv_sub hl [0, 1, 2] rfl⟩ (by omega)
    · refine lv_aload_n hx hb dX1_init_54 rfl (lv_at hl 1 rfl) ?_
      refine va_get (D := D) (ci := 0) (v := .ref hf) (C := RX1) (T := TX1) (N := 5) hx hb hts in_X1 hown hK hP 0 rfl rfl 1 (by decide) (hts _ q31) (fun _ h9 => h9) rfl dX1_init_55 ?_
      refine lv_bipush (v := (nI 6)) hx hb dX1_init_58 (by decide) ?_
      refine lv_iload_n hx hb dX1_init_60 rfl (lv_at hl 0 rfl) ?_
      refine gx_imul (n := 6 * g) hx hb dX1_init_61 rfl ?_
      refine lv_iconst (v := (nI 5)) hx hb dX1_init_62 (by decide) ?_
      refine gx_iadd (n := 6 * g + 5) hx hb dX1_init_63 rfl ?_
      refine lv_iconst (v := (nI 1)) hx hb dX1_init_64 (by decide) ?_
      refine gx_iast hx hb hK hP hD hS 1 0 rfl rfl (by omega) (by decide) dX1_init_65 (fun H locs hP hD hS => ?_)
      have hP : va_P D vwCl [(h, .inr (0, [.int (nI (clG x)), .ref hf, .ref ho, .int 0, .int 0])), (hf, .inl (cI, 24, .inl ((upd (fmI g) (6 * g + 5) ((nI 1)))))), (ho, .inl (cB, 128, .inl (fun _ => 0)))] H := hP
      have hD : va_D A [(h, .inr (0, [.int (nI (clG x)), .ref hf, .ref ho, .int 0, .int 0])), (hf, .inl (cI, 24, .inl ((upd (fmI g) (6 * g + 5) ((nI 1)))))), (ho, .inl (cB, 128, .inl (fun _ => 0)))] := hD
      refine lv_iinc (v := (nI (g + 1))) (lv' := [(2, .int (nI (g + 1))), (0, .ref h), (1, .int x)]) hx hb dX1_init_66 hl (k := 0) rfl (gn_inc g) (by decide) rfl (fun ls hl => ?_)
      refine lv_goto (tgt := 46) hx hb dX1_init_69 (by decide) ?_
      exact ih (g + 1) _ _ ls ⟨by omega, ⟨hP, hD, hS⟩, lv_sub hl [0, 1, 2] rfl⟩ (by omega)
set_option maxHeartbeats 400000 in
set_option maxRecDepth 100000 in
theorem mX2_init (l : Launch) (D : va_G) (k : Nat) (sz : Nat) (x : Int32) : Met l yX2_init (ws_ yX2_init cX2_init 3 none) ({ frames := 1, cells := 2, slots := 256, locals := 12 } : Room) (gw_Pc D [(k, .inr (1, [.int 0, .null, .null]))] [] sz [.ref k, .int x]) (va_Qv (fun _ : Nat × Nat × ClassId × ClassId => True) (gI_M D k x (va_A [(k, .inr (1, [.int 0, .null, .null]))] sz)) (va_A [(k, .inr (1, [.int 0, .null, .null]))] sz)) 2 256 (va_A [(k, .inr (1, [.int 0, .null, .null]))] sz) := by
  refine gw_ofQ (fun A => va_Qv (fun _ : Nat × Nat × ClassId × ClassId => True) (gI_M D k x A) A) (by decide) (Nat.le_of_ble_eq_true rfl) ?_
  intro p e s m below meth c ls A hx hb hr hml hown hts hlocks hin hP hK hD hS hA hl
  have hl : lv_has ls 3 [(0, .ref k), (1, .int x)] := hl
  have hown : s.vm.findClass RX2 = some m.cls := hown
  have hin : meth.name = "<init>" := hin
  have hP : va_P D vwCl [(k, .inr (1, [.int 0, .null, .null]))] s.heap := hP
  have hD : va_D A [(k, .inr (1, [.int 0, .null, .null]))] := hD
  refine lv_aload_n hx hb dX2_init_0 rfl (lv_at hl 0 rfl) ?_
  refine W.objInit hx hb hown (hts _ q136) (hts _ q28) (hts _ q29) rfl (by rw [hml]; exact hl.1) rfl dX2_init_1 (Nat.le_of_ble_eq_true rfl) (Nat.le_of_ble_eq_true rfl) ?_
  refine W.eq (g2 := F0 m 4 ls []) rfl ?_
  refine lv_aload_n hx hb dX2_init_4 rfl (lv_at hl 0 rfl) ?_
  refine lv_sipush (v := (nI 128)) hx hb dX2_init_5 (by decide) ?_
  refine va_newa (atype := .int) (a0 := (128, .inl (fun _ => 0))) (N' := 128) hx hb (hts _ q46) rfl hK hP hD hS hA (fun _ => rfl) (by decide) (by decide) (by decide) (Nat.le_of_ble_eq_true rfl) (Nat.le_of_ble_eq_true rfl) dX2_init_8 (fun kw cW H hK hP hD hS => ?_)
  refine W.widen (k := 1) (n := 128) (by omega) (by omega) ?_
  have hP : va_P D vwCl [(k, .inr (1, [.int 0, .null, .null])), (kw, .inl (cW, 128, .inl (fun _ => 0)))] H := hP
  have hD : va_D A [(k, .inr (1, [.int 0, .null, .null])), (kw, .inl (cW, 128, .inl (fun _ => 0)))] := hD
  have hK : va_K D vwCl [(cW, .int)] s := hK
  refine va_put (D := D) (ci := 1) (v := .ref kw) (ty := .array .int) (C := RX2) (T := TX2) (N := 3) hx hb hts in_X2 tyX2 tyX2_ok nmX2 hown hK hP hD hS 0 rfl rfl 1 (by decide) (hts _ q138) (fun _ h9 => h9) rfl (by decide +kernel) rfl rfl (Nat.le_of_ble_eq_true rfl) dX2_init_10 (fun H locs hP hD hS => ?_)
  have hP : va_P D vwCl [(k, .inr (1, [.int 0, .ref kw, .null])), (kw, .inl (cW, 128, .inl (fun _ => 0)))] H := hP
  have hD : va_D A [(k, .inr (1, [.int 0, .ref kw, .null])), (kw, .inl (cW, 128, .inl (fun _ => 0)))] := hD
  refine lv_aload_n hx hb dX2_init_13 rfl (lv_at hl 0 rfl) ?_
  refine lv_sipush (v := (nI 128)) hx hb dX2_init_14 (by decide) ?_
  refine va_newa (atype := .int) (a0 := (128, .inl (fun _ => 0))) (N' := 128) hx hb (hts _ q46) rfl hK hP hD hS hA (fun _ => rfl) (by decide) (by decide) (by decide) (Nat.le_of_ble_eq_true rfl) (Nat.le_of_ble_eq_true rfl) dX2_init_17 (fun ko cO H hK hP hD hS => ?_)
  refine W.widen (k := 2) (n := 256) (by omega) (by omega) ?_
  have hP : va_P D vwCl [(k, .inr (1, [.int 0, .ref kw, .null])), (kw, .inl (cW, 128, .inl (fun _ => 0))), (ko, .inl (cO, 128, .inl (fun _ => 0)))] H := hP
  have hD : va_D A [(k, .inr (1, [.int 0, .ref kw, .null])), (kw, .inl (cW, 128, .inl (fun _ => 0))), (ko, .inl (cO, 128, .inl (fun _ => 0)))] := hD
  have hK : va_K D vwCl [(cW, .int), (cO, .int)] s := hK
  refine va_put (D := D) (ci := 1) (v := .ref ko) (ty := .array .int) (C := RX2) (T := TX2) (N := 3) hx hb hts in_X2 tyX2 tyX2_ok nmX2 hown hK hP hD hS 0 rfl rfl 2 (by decide) (hts _ q139) (fun _ h9 => h9) rfl (by decide +kernel) rfl rfl (Nat.le_of_ble_eq_true rfl) dX2_init_19 (fun H locs hP hD hS => ?_)
  have hP : va_P D vwCl [(k, .inr (1, [.int 0, .ref kw, .ref ko])), (kw, .inl (cW, 128, .inl (fun _ => 0))), (ko, .inl (cO, 128, .inl (fun _ => 0)))] H := hP
  have hD : va_D A [(k, .inr (1, [.int 0, .ref kw, .ref ko])), (kw, .inl (cW, 128, .inl (fun _ => 0))), (ko, .inl (cO, 128, .inl (fun _ => 0)))] := hD
  refine lv_aload_n hx hb dX2_init_22 rfl (lv_at hl 0 rfl) ?_
  refine lv_iload_n hx hb dX2_init_23 rfl (lv_at hl 1 rfl) ?_
  refine lv_iconst (v := (nI 1)) hx hb dX2_init_24 (by decide) ?_
  refine lv_icmp_ge (tgt := 32) hx hb dX2_init_25 (by decide)  (fun c1 => ?_) (fun c1 => ?_)
  · refine lv_iload_n hx hb dX2_init_32 rfl (lv_at hl 1 rfl) ?_
    refine lv_iconst (v := (nI 4)) hx hb dX2_init_33 (by decide) ?_
    refine lv_icmp_le (tgt := 41) hx hb dX2_init_34 (by decide)  (fun c2 => ?_) (fun c2 => ?_)
    · refine lv_iload_n hx hb dX2_init_41 rfl (lv_at hl 1 rfl) ?_
      refine gx_top (y := (nI (clG x))) (clG_mid c1 c2) ?_
      refine va_put (D := D) (ci := 1) (v := .int (nI (clG x))) (ty := .int) (C := RX2) (T := TX2) (N := 3) hx hb hts in_X2 tyX2 tyX2_ok nmX2 hown hK hP hD hS 0 rfl rfl 0 (by decide) (hts _ q137) (fun _ h9 => h9) rfl (by decide +kernel) rfl rfl (Nat.le_of_ble_eq_true rfl) dX2_init_42 (fun H locs hP hD hS => ?_)
      have hP : va_P D vwCl [(k, .inr (1, [.int (nI (clG x)), .ref kw, .ref ko])), (kw, .inl (cW, 128, .inl (fun _ => 0))), (ko, .inl (cO, 128, .inl (fun _ => 0)))] H := hP
      have hD : va_D A [(k, .inr (1, [.int (nI (clG x)), .ref kw, .ref ko])), (kw, .inl (cW, 128, .inl (fun _ => 0))), (ko, .inl (cO, 128, .inl (fun _ => 0)))] := hD
      have hG := clG_in x
      refine lv_iconst (v := (nI 0)) hx hb dX2_init_45 (by decide) ?_
      refine lv_istore_n (lv' := [(2, .int (nI 0)), (0, .ref k), (1, .int x)]) hx hb dX2_init_46 rfl hl (by decide) rfl (fun ls hl => ?_)
      refine gx_loopM (σ := Nat) (fun t H locs ls => t ≤ 128 ∧ (va_P D vwCl [(k, .inr (1, [.int (nI (clG x)), .ref kw, .ref ko])), (kw, .inl (cW, 128, .inl (flF (fun _ => 0) 0 t (-1)))), (ko, .inl (cO, 128, .inl (fun _ => 0)))] H ∧ va_D A [(k, .inr (1, [.int (nI (clG x)), .ref kw, .ref ko])), (kw, .inl (cW, 128, .inl (flF (fun _ => 0) 0 t (-1)))), (ko, .inl (cO, 128, .inl (fun _ => 0)))] ∧ va_S A s.heap H locs) ∧ lv_has ls 3 [(2, .int (nI t)), (0, .ref k), (1, .int x)]) (fun t => 128 - t) 0 ⟨Nat.zero_le _, ⟨by rw [flF_0]; exact hP, by rw [flF_0]; exact hD, hS⟩, lv_sub hl [0, 1, 2] rfl⟩ ?_
      rintro t H locs ls ⟨ht, ⟨hP, hD, hS⟩, hl⟩ ih2
      refine lv_iload_n hx hb dX2_init_47 rfl (lv_at hl 0 rfl) ?_
      refine lv_sipush (v := (nI 128)) hx hb dX2_init_48 (by decide) ?_
      refine gx_icmp_ge (tgt := 67) hx hb dX2_init_51 (by decide) (by omega) (by omega) (fun c6 => ?_) (fun c6 => ?_)
      · have e : t = 128 := by omega
        subst e
        exact W.vret hx hb hr (fun t9 ht9 hW9 => ⟨⟨(kw, ko, cW, cO), rfl, trivial, by rw [ht9]; exact hP, va_K.moved hW9.alike hK, hD⟩, hS.F ht9⟩) hS.2.2 dX2_init_67
      · refine lv_aload_n hx hb dX2_init_54 rfl (lv_at hl 1 rfl) ?_
        refine va_get (D := D) (ci := 1) (v := .ref kw) (C := RX2) (T := TX2) (N := 3) hx hb hts in_X2 hown hK hP 0 rfl rfl 1 (by decide) (hts _ q138) (fun _ h9 => h9) rfl dX2_init_55 ?_
        refine lv_iload_n hx hb dX2_init_58 rfl (lv_at hl 0 rfl) ?_
        refine lv_iconst (v := (-1)) hx hb dX2_init_59 (by decide) ?_
        refine gx_iast hx hb hK hP hD hS 1 0 rfl rfl (by omega) (by decide) dX2_init_60 (fun H locs hP hD hS => ?_)
        have hP : va_P D vwCl [(k, .inr (1, [.int (nI (clG x)), .ref kw, .ref ko])), (kw, .inl (cW, 128, .inl ((upd (flF (fun _ => 0) 0 t (-1)) t ((-1)))))), (ko, .inl (cO, 128, .inl (fun _ => 0)))] H := hP
        have hD : va_D A [(k, .inr (1, [.int (nI (clG x)), .ref kw, .ref ko])), (kw, .inl (cW, 128, .inl ((upd (flF (fun _ => 0) 0 t (-1)) t ((-1)))))), (ko, .inl (cO, 128, .inl (fun _ => 0)))] := hD
        refine lv_iinc (v := (nI (t + 1))) (lv' := [(2, .int (nI (t + 1))), (0, .ref k), (1, .int x)]) hx hb dX2_init_61 hl (k := 0) rfl (gn_inc t) (by decide) rfl (fun ls hl => ?_)
        refine lv_goto (tgt := 47) hx hb dX2_init_64 (by decide) ?_
        rw [flF_s0] at hP hD
        exact ih2 (t + 1) _ _ ls ⟨by omega, ⟨hP, hD, hS⟩, lv_sub hl [0, 1, 2] rfl⟩ (by omega)
    · refine lv_iconst (v := (nI 4)) hx hb dX2_init_37 (by decide) ?_
      refine lv_goto (tgt := 42) hx hb dX2_init_38 (by decide) ?_
      refine gx_top (y := (nI (clG x))) (clG_hi c1 c2) ?_
      refine va_put (D := D) (ci := 1) (v := .int (nI (clG x))) (ty := .int) (C := RX2) (T := TX2) (N := 3) hx hb hts in_X2 tyX2 tyX2_ok nmX2 hown hK hP hD hS 0 rfl rfl 0 (by decide) (hts _ q137) (fun _ h9 => h9) rfl (by decide +kernel) rfl rfl (Nat.le_of_ble_eq_true rfl) dX2_init_42 (fun H locs hP hD hS => ?_)
      have hP : va_P D vwCl [(k, .inr (1, [.int (nI (clG x)), .ref kw, .ref ko])), (kw, .inl (cW, 128, .inl (fun _ => 0))), (ko, .inl (cO, 128, .inl (fun _ => 0)))] H := hP
      have hD : va_D A [(k, .inr (1, [.int (nI (clG x)), .ref kw, .ref ko])), (kw, .inl (cW, 128, .inl (fun _ => 0))), (ko, .inl (cO, 128, .inl (fun _ => 0)))] := hD
      have hG := clG_in x
      refine lv_iconst (v := (nI 0)) hx hb dX2_init_45 (by decide) ?_
      refine lv_istore_n (lv' := [(2, .int (nI 0)), (0, .ref k), (1, .int x)]) hx hb dX2_init_46 rfl hl (by decide) rfl (fun ls hl => ?_)
      refine gx_loopM (σ := Nat) (fun t H locs ls => t ≤ 128 ∧ (va_P D vwCl [(k, .inr (1, [.int (nI (clG x)), .ref kw, .ref ko])), (kw, .inl (cW, 128, .inl (flF (fun _ => 0) 0 t (-1)))), (ko, .inl (cO, 128, .inl (fun _ => 0)))] H ∧ va_D A [(k, .inr (1, [.int (nI (clG x)), .ref kw, .ref ko])), (kw, .inl (cW, 128, .inl (flF (fun _ => 0) 0 t (-1)))), (ko, .inl (cO, 128, .inl (fun _ => 0)))] ∧ va_S A s.heap H locs) ∧ lv_has ls 3 [(2, .int (nI t)), (0, .ref k), (1, .int x)]) (fun t => 128 - t) 0 ⟨Nat.zero_le _, ⟨by rw [flF_0]; exact hP, by rw [flF_0]; exact hD, hS⟩, lv_sub hl [0, 1, 2] rfl⟩ ?_
      rintro t H locs ls ⟨ht, ⟨hP, hD, hS⟩, hl⟩ ih2
      refine lv_iload_n hx hb dX2_init_47 rfl (lv_at hl 0 rfl) ?_
      refine lv_sipush (v := (nI 128)) hx hb dX2_init_48 (by decide) ?_
      refine gx_icmp_ge (tgt := 67) hx hb dX2_init_51 (by decide) (by omega) (by omega) (fun c6 => ?_) (fun c6 => ?_)
      · have e : t = 128 := by omega
        subst e
        exact W.vret hx hb hr (fun t9 ht9 hW9 => ⟨⟨(kw, ko, cW, cO), rfl, trivial, by rw [ht9]; exact hP, va_K.moved hW9.alike hK, hD⟩, hS.F ht9⟩) hS.2.2 dX2_init_67
      · refine lv_aload_n hx hb dX2_init_54 rfl (lv_at hl 1 rfl) ?_
        refine va_get (D := D) (ci := 1) (v := .ref kw) (C := RX2) (T := TX2) (N := 3) hx hb hts in_X2 hown hK hP 0 rfl rfl 1 (by decide) (hts _ q138) (fun _ h9 => h9) rfl dX2_init_55 ?_
        refine lv_iload_n hx hb dX2_init_58 rfl (lv_at hl 0 rfl) ?_
        refine lv_iconst (v := (-1)) hx hb dX2_init_59 (by decide) ?_
        refine gx_iast hx hb hK hP hD hS 1 0 rfl rfl (by omega) (by decide) dX2_init_60 (fun H locs hP hD hS => ?_)
        have hP : va_P D vwCl [(k, .inr (1, [.int (nI (clG x)), .ref kw, .ref ko])), (kw, .inl (cW, 128, .inl ((upd (flF (fun _ => 0) 0 t (-1)) t ((-1)))))), (ko, .inl (cO, 128, .inl (fun _ => 0)))] H := hP
        have hD : va_D A [(k, .inr (1, [.int (nI (clG x)), .ref kw, .ref ko])), (kw, .inl (cW, 128, .inl ((upd (flF (fun _ => 0) 0 t (-1)) t ((-1)))))), (ko, .inl (cO, 128, .inl (fun _ => 0)))] := hD
        refine lv_iinc (v := (nI (t + 1))) (lv' := [(2, .int (nI (t + 1))), (0, .ref k), (1, .int x)]) hx hb dX2_init_61 hl (k := 0) rfl (gn_inc t) (by decide) rfl (fun ls hl => ?_)
        refine lv_goto (tgt := 47) hx hb dX2_init_64 (by decide) ?_
        rw [flF_s0] at hP hD
        exact ih2 (t + 1) _ _ ls ⟨by omega, ⟨hP, hD, hS⟩, lv_sub hl [0, 1, 2] rfl⟩ (by omega)
  · refine lv_iconst (v := (nI 1)) hx hb dX2_init_28 (by decide) ?_
    refine lv_goto (tgt := 42) hx hb dX2_init_29 (by decide) ?_
    refine gx_top (y := (nI (clG x))) (clG_lo c1) ?_
    refine va_put (D := D) (ci := 1) (v := .int (nI (clG x))) (ty := .int) (C := RX2) (T := TX2) (N := 3) hx hb hts in_X2 tyX2 tyX2_ok nmX2 hown hK hP hD hS 0 rfl rfl 0 (by decide) (hts _ q137) (fun _ h9 => h9) rfl (by decide +kernel) rfl rfl (Nat.le_of_ble_eq_true rfl) dX2_init_42 (fun H locs hP hD hS => ?_)
    have hP : va_P D vwCl [(k, .inr (1, [.int (nI (clG x)), .ref kw, .ref ko])), (kw, .inl (cW, 128, .inl (fun _ => 0))), (ko, .inl (cO, 128, .inl (fun _ => 0)))] H := hP
    have hD : va_D A [(k, .inr (1, [.int (nI (clG x)), .ref kw, .ref ko])), (kw, .inl (cW, 128, .inl (fun _ => 0))), (ko, .inl (cO, 128, .inl (fun _ => 0)))] := hD
    have hG := clG_in x
    refine lv_iconst (v := (nI 0)) hx hb dX2_init_45 (by decide) ?_
    refine lv_istore_n (lv' := [(2, .int (nI 0)), (0, .ref k), (1, .int x)]) hx hb dX2_init_46 rfl hl (by decide) rfl (fun ls hl => ?_)
    refine gx_loopM (σ := Nat) (fun t H locs ls => t ≤ 128 ∧ (va_P D vwCl [(k, .inr (1, [.int (nI (clG x)), .ref kw, .ref ko])), (kw, .inl (cW, 128, .inl (flF (fun _ => 0) 0 t (-1)))), (ko, .inl (cO, 128, .inl (fun _ => 0)))] H ∧ va_D A [(k, .inr (1, [.int (nI (clG x)), .ref kw, .ref ko])), (kw, .inl (cW, 128, .inl (flF (fun _ => 0) 0 t (-1)))), (ko, .inl (cO, 128, .inl (fun _ => 0)))] ∧ va_S A s.heap H locs) ∧ lv_has ls 3 [(2, .int (nI t)), (0, .ref k), (1, .int x)]) (fun t => 128 - t) 0 ⟨Nat.zero_le _, ⟨by rw [flF_0]; exact hP, by rw [flF_0]; exact hD, hS⟩, lv_sub hl [0, 1, 2] rfl⟩ ?_
    rintro t H locs ls ⟨ht, ⟨hP, hD, hS⟩, hl⟩ ih2
    refine lv_iload_n hx hb dX2_init_47 rfl (lv_at hl 0 rfl) ?_
    refine lv_sipush (v := (nI 128)) hx hb dX2_init_48 (by decide) ?_
    refine gx_icmp_ge (tgt := 67) hx hb dX2_init_51 (by decide) (by omega) (by omega) (fun c6 => ?_) (fun c6 => ?_)
    · have e : t = 128 := by omega
      subst e
      exact W.vret hx hb hr (fun t9 ht9 hW9 => ⟨⟨(kw, ko, cW, cO), rfl, trivial, by rw [ht9]; exact hP, va_K.moved hW9.alike hK, hD⟩, hS.F ht9⟩) hS.2.2 dX2_init_67
    · refine lv_aload_n hx hb dX2_init_54 rfl (lv_at hl 1 rfl) ?_
      refine va_get (D := D) (ci := 1) (v := .ref kw) (C := RX2) (T := TX2) (N := 3) hx hb hts in_X2 hown hK hP 0 rfl rfl 1 (by decide) (hts _ q138) (fun _ h9 => h9) rfl dX2_init_55 ?_
      refine lv_iload_n hx hb dX2_init_58 rfl (lv_at hl 0 rfl) ?_
      refine lv_iconst (v := (-1)) hx hb dX2_init_59 (by decide) ?_
      refine gx_iast hx hb hK hP hD hS 1 0 rfl rfl (by omega) (by decide) dX2_init_60 (fun H locs hP hD hS => ?_)
      have hP : va_P D vwCl [(k, .inr (1, [.int (nI (clG x)), .ref kw, .ref ko])), (kw, .inl (cW, 128, .inl ((upd (flF (fun _ => 0) 0 t (-1)) t ((-1)))))), (ko, .inl (cO, 128, .inl (fun _ => 0)))] H := hP
      have hD : va_D A [(k, .inr (1, [.int (nI (clG x)), .ref kw, .ref ko])), (kw, .inl (cW, 128, .inl ((upd (flF (fun _ => 0) 0 t (-1)) t ((-1)))))), (ko, .inl (cO, 128, .inl (fun _ => 0)))] := hD
      refine lv_iinc (v := (nI (t + 1))) (lv' := [(2, .int (nI (t + 1))), (0, .ref k), (1, .int x)]) hx hb dX2_init_61 hl (k := 0) rfl (gn_inc t) (by decide) rfl (fun ls hl => ?_)
      refine lv_goto (tgt := 47) hx hb dX2_init_64 (by decide) ?_
      rw [flF_s0] at hP hD
      exact ih2 (t + 1) _ _ ls ⟨by omega, ⟨hP, hD, hS⟩, lv_sub hl [0, 1, 2] rfl⟩ (by omega)
end
section
/-! the plain law of free runs: no program in sight -/
/-- the run of order j, place i is free -/
def RF (f : Nat → Prop) (j i : Nat) : Prop := ∀ b, b / 2 ^ j = i → f b
/-- .. and the run of the next order around it isn't -/
def MX (f : Nat → Prop) (j i : Nat) : Prop := RF f j i ∧ ¬ RF f (j + 1) (i / 2)
def In32 (f : Nat → Prop) : Prop := ∀ b, f b → b < 32
theorem dd2 (b j : Nat) : b / 2 ^ j / 2 = b / 2 ^ (j + 1) := by rw [Nat.div_div_eq_div_mul, Nat.pow_succ]
theorem ddk {j k : Nat} (b : Nat) (h : j ≤ k) : b / 2 ^ k = b / 2 ^ j / 2 ^ (k - j) := by
  rw [Nat.div_div_eq_div_mul, ← Nat.pow_add, show j + (k - j) = k by omega]
theorem ddx (i j : Nat) : i * 2 ^ j / 2 ^ j = i := Nat.mul_div_cancel _ (Nat.two_pow_pos j)
theorem dd_le {a b j k : Nat} (h : j ≤ k) (e : a / 2 ^ j = b / 2 ^ j) : a / 2 ^ k = b / 2 ^ k := by rw [ddk a h, e, ← ddk b h]
theorem xor1 : ∀ b, b < 64 → b ^^^ 1 = if b % 2 = 0 then b + 1 else b - 1 := by decide +kernel
theorem xor_half {x : Nat} (h : x < 64) : (x ^^^ 1) / 2 = x / 2 := by
  rw [xor1 x h]
  split <;> omega
theorem xor_ne {x : Nat} (h : x < 64) : x ^^^ 1 ≠ x := by
  rw [xor1 x h]
  split <;> omega
theorem half_two {a x : Nat} (h : x < 64) (e : a / 2 = x / 2) : a = x ∨ a = x ^^^ 1 := by
  rw [xor1 x h]
  split <;> omega
theorem RF_mono {f : Nat → Prop} {j k b : Nat} (h : j ≤ k) (hr : RF f k (b / 2 ^ k)) : RF f j (b / 2 ^ j) := fun c hc => hr c (dd_le h hc)
theorem RF_up {f : Nat → Prop} {j i : Nat} (h : RF f (j + 1) (i / 2)) : RF f j i := fun c hc => h c (by rw [← dd2, hc])
theorem RF_join {f : Nat → Prop} {j i : Nat} (hi : i < 64) (h1 : RF f j i) (h2 : RF f j (i ^^^ 1)) : RF f (j + 1) (i / 2) := by
  intro c hc
  rw [← dd2] at hc
  rcases half_two hi hc with e | e
  · exact h1 c e
  · exact h2 c e
theorem RF_not6 {f : Nat → Prop} (h : In32 f) (i : Nat) : ¬ RF f 6 i := by
  intro hr
  have h1 := h (64 * i + 63) (hr (64 * i + 63) (by show (64 * i + 63) / 64 = i; omega))
  omega
theorem RF_big {f : Nat → Prop} (h : In32 f) {j i : Nat} (hi : 32 ≤ i * 2 ^ j) : ¬ RF f j i := by
  intro hr
  have h1 := h (i * 2 ^ j) (hr _ (ddx i j))
  omega
def okM (fm : Nat → Int32) (g : Nat) (F : Nat → Prop) : Prop := ∀ j i, j < 6 → i < 32 → (Bt fm g j i = true ↔ MX F j i)
theorem okM_at {fm : Nat → Int32} {g b j : Nat} {F : Nat → Prop} (hok : okM fm g F) (hb : b < 32) (hj : j < 6) : Bt fm g j (b / 2 ^ j) = true ↔ RF F j (b / 2 ^ j) ∧ ¬ RF F (j + 1) (b / 2 ^ (j + 1)) := by
  rw [hok j _ hj (gp_div hb)]
  unfold MX
  rw [dd2]
theorem FR_iff {fm : Nat → Int32} {g o b : Nat} {F : Nat → Prop} (hok : okM fm g F) (h32 : In32 F) (hb : b < 32) (ho : o < 6) : FR fm g o b ↔ RF F o (b / 2 ^ o) := by
  constructor
  · rintro ⟨j, hj, hoj, hf⟩
    exact RF_mono hoj ((okM_at hok hb hj).mp hf.1).1
  · intro hr
    obtain ⟨k, ⟨hk1, hk2⟩, hk3⟩ := pk_least (fun k => ¬ RF F (k + 1) (b / 2 ^ (k + 1)) ∧ o ≤ k) ⟨5, RF_not6 h32 _, by omega⟩
    have hk : k < 6 := by
      rcases Nat.lt_or_ge k 6 with z | z
      · exact z
      · exact absurd ⟨RF_not6 h32 _, by omega⟩ (hk3 5 (by omega))
    have hrk : RF F k (b / 2 ^ k) := by
      rcases Nat.lt_or_ge o k with z | z
      · have h1 := hk3 (k - 1) (by omega)
        have h2 : ¬ ¬ RF F (k - 1 + 1) (b / 2 ^ (k - 1 + 1)) := fun q => h1 ⟨q, by omega⟩
        rw [show k - 1 + 1 = k by omega] at h2
        exact Classical.not_not.mp h2
      · rw [show k = o by omega]; exact hr
    refine ⟨k, hk, hk2, (okM_at hok hb hk).mpr ⟨hrk, hk1⟩, fun i hi => ?_⟩
    cases hq : Bt fm g i (b / 2 ^ i) with
    | false => rfl
    | true => exact absurd (RF_mono (by omega) hrk) ((okM_at hok hb (by omega)).mp hq).2
/-! a run taken out -/
theorem RFc_lo {F : Nat → Prop} {o b j i : Nat} (h : j ≤ o) : RF (fun c => F c ∧ ¬ c / 2 ^ o = b / 2 ^ o) j i ↔ RF F j i ∧ ¬ i / 2 ^ (o - j) = b / 2 ^ o := by
  constructor
  · intro hr
    refine ⟨fun c hc => (hr c hc).1, ?_⟩
    have h1 := (hr (i * 2 ^ j) (ddx i j)).2
    rw [ddk _ h, ddx] at h1
    exact h1
  · rintro ⟨h1, h2⟩ c hc
    refine ⟨h1 c hc, ?_⟩
    rw [ddk _ h, hc]
    exact h2
theorem RFc_hi {F : Nat → Prop} {o b j i : Nat} (h : o ≤ j) : RF (fun c => F c ∧ ¬ c / 2 ^ o = b / 2 ^ o) j i ↔ RF F j i ∧ ¬ i = b / 2 ^ j := by
  constructor
  · intro hr
    refine ⟨fun c hc => (hr c hc).1, fun e => ?_⟩
    exact (hr b e.symm).2 rfl
  · rintro ⟨h1, h2⟩ c hc
    exact ⟨h1 c hc, fun e => h2 (by rw [← hc]; exact dd_le h e)⟩
theorem dd_lo {o j i : Nat} (h : j < o) : i / 2 / 2 ^ (o - (j + 1)) = i / 2 ^ (o - j) := by
  rw [Nat.div_div_eq_div_mul, show 2 * 2 ^ (o - (j + 1)) = 2 ^ (o - j) by rw [show o - j = (o - (j + 1)) + 1 by omega, Nat.pow_succ]; omega]
theorem CV_ok {fm fm' : Nat → Int32} {g o b J0 : Nat} {F : Nat → Prop} (hok : okM fm g F) (hg : g < 4) (hb : b < 32) (hJ : J0 < 6) (hoJ : o ≤ J0) (hF : FOA fm g b J0) (hcv : CV fm fm' g o b J0) : okM fm' g (fun c => F c ∧ ¬ c / 2 ^ o = b / 2 ^ o) := by
  obtain ⟨R0, N0⟩ := (okM_at hok hb hJ).mp hF.1
  intro j i hj hi
  have old := hok j i hj hi
  have hbj : b / 2 ^ j < 64 := by have := gp_div (j := j) hb; omega
  rw [hcv g j i hg hj hi]
  unfold MX at old ⊢
  rcases Nat.lt_or_ge j o with hjo | hjo
  · rw [if_neg (by omega), if_neg (by omega), old, RFc_lo (by omega), RFc_lo hjo, dd_lo hjo]
    by_cases e : i / 2 ^ (o - j) = b / 2 ^ o
    · have h1 : RF F (j + 1) (i / 2) := by
        intro c hc
        refine RF_mono hoJ R0 c ?_
        rw [ddk c (show j + 1 ≤ o by omega), hc, dd_lo hjo]
        exact e
      constructor
      · rintro ⟨-, h2⟩
        exact absurd h1 h2
      · rintro ⟨⟨-, h2⟩, -⟩
        exact absurd e h2
    · constructor
      · rintro ⟨h1, h2⟩
        exact ⟨⟨h1, e⟩, fun q => h2 q.1⟩
      · rintro ⟨⟨h1, -⟩, h2⟩
        exact ⟨h1, fun q => h2 ⟨q, e⟩⟩
  · rw [RFc_hi hjo, RFc_hi (by omega), ← dd2]
    rcases Nat.lt_trichotomy j J0 with hlt | heq | hgt
    · rw [if_neg (by omega), if_pos ⟨rfl, hjo, hlt⟩]
      have h1 : RF F (j + 1) (b / 2 ^ (j + 1)) := RF_mono (by omega) R0
      rw [Bool.or_eq_true, decide_eq_true_iff, old]
      by_cases e : i / 2 = b / 2 ^ j / 2
      · rw [← dd2, ← e] at h1
        have h2 := RF_up h1
        constructor
        · rintro (⟨-, h3⟩ | h3)
          · exact absurd h1 h3
          · exact ⟨⟨h2, by rw [h3]; exact xor_ne hbj⟩, fun q => q.2 e⟩
        · rintro ⟨⟨-, h3⟩, -⟩
          rcases half_two hbj e with z | z
          · exact absurd z h3
          · exact Or.inr z
      · have h3 : ¬ i = b / 2 ^ j := fun q => e (by rw [q])
        have h4 : ¬ i = b / 2 ^ j ^^^ 1 := fun q => e (by rw [q]; exact xor_half hbj)
        constructor
        · rintro (⟨h5, h6⟩ | h5)
          · exact ⟨⟨h5, h3⟩, fun q => h6 q.1⟩
          · exact absurd h5 h4
        · rintro ⟨⟨h5, -⟩, h6⟩
          exact Or.inl ⟨h5, fun q => h6 ⟨q, e⟩⟩
    · subst heq
      rw [if_pos ⟨rfl, rfl⟩, Bool.and_eq_true, old]
      rw [← dd2] at N0
      constructor
      · rintro ⟨⟨h1, h2⟩, h3⟩
        exact ⟨⟨h1, by simpa using h3⟩, fun q => h2 q.1⟩
      · rintro ⟨⟨h1, h2⟩, h3⟩
        refine ⟨⟨h1, fun q => h3 ⟨q, fun z => N0 (by rw [← z]; exact q)⟩⟩, by simpa using h2⟩
    · rw [if_neg (by omega), if_neg (by omega), old]
      have h1 : ¬ RF F j (b / 2 ^ j) := fun q => N0 (RF_mono (by omega) q)
      have h2 : ¬ RF F (j + 1) (b / 2 ^ j / 2) := fun q => N0 (RF_mono (k := j + 1) (by omega) (by rw [← dd2]; exact q))
      constructor
      · rintro ⟨h3, h4⟩
        exact ⟨⟨h3, fun z => h1 (by rw [← z]; exact h3)⟩, fun q => h4 q.1⟩
      · rintro ⟨⟨h3, -⟩, h4⟩
        exact ⟨h3, fun q => h4 ⟨q, fun z => h2 (by rw [← z]; exact q)⟩⟩
/-! a run given back -/
theorem RFg_lo {F : Nat → Prop} {o b j i : Nat} (h : j ≤ o) : RF (fun c => F c ∨ c / 2 ^ o = b / 2 ^ o) j i ↔ RF F j i ∨ i / 2 ^ (o - j) = b / 2 ^ o := by
  constructor
  · intro hr
    by_cases e : i / 2 ^ (o - j) = b / 2 ^ o
    · exact Or.inr e
    · refine Or.inl fun c hc => ?_
      rcases hr c hc with z | z
      · exact z
      · rw [ddk _ h, hc] at z
        exact absurd z e
  · rintro (h1 | h1) c hc
    · exact Or.inl (h1 c hc)
    · exact Or.inr (by rw [ddk _ h, hc]; exact h1)
theorem RFg_hi {F : Nat → Prop} {o b j i : Nat} (h : o ≤ j) (hi : ¬ i = b / 2 ^ j) : RF (fun c => F c ∨ c / 2 ^ o = b / 2 ^ o) j i ↔ RF F j i := by
  constructor
  · intro hr c hc
    rcases hr c hc with z | z
    · exact z
    · exact absurd (by rw [← hc]; exact dd_le h z) hi
  · intro hr c hc
    exact Or.inl (hr c hc)
theorem run32 {o b c : Nat} (ho : o < 6) (hb : b < 32) (h : c / 2 ^ o = b / 2 ^ o) : c < 32 := by
  rcases (show o = 0 ∨ o = 1 ∨ o = 2 ∨ o = 3 ∨ o = 4 ∨ o = 5 by omega) with rfl | rfl | rfl | rfl | rfl | rfl <;> simp only [Nat.reducePow] at h <;> omega
theorem GB_ok {fm fm' : Nat → Int32} {g o b J : Nat} {F : Nat → Prop} (hok : okM fm g F) (h32 : In32 F) (hg : g < 4) (hb : b < 32) (ho : o < 6) (hnf : ∀ c, c / 2 ^ o = b / 2 ^ o → ¬ F c) (hgj : GJ fm g o b J) (hgb : GB fm fm' g o b J) : okM fm' g (fun c => F c ∨ c / 2 ^ o = b / 2 ^ o) := by
  obtain ⟨hoJ, hJ, hup, hend⟩ := hgj
  have h32' : In32 (fun c => F c ∨ c / 2 ^ o = b / 2 ^ o) := fun c hc => by
    rcases hc with z | z
    · exact h32 c z
    · exact run32 ho hb z
  have hbx : ∀ j, b / 2 ^ j < 64 := fun j => by have := gp_div (j := j) hb; omega
  have hnr : ∀ j, ¬ RF F j (b / 2 ^ j) := fun j hr => hnf b rfl (hr b rfl)
  have hbud : ∀ j, o ≤ j → j < 6 → (Bt fm g j (b / 2 ^ j ^^^ 1) = true ↔ RF F j (b / 2 ^ j ^^^ 1)) := by
    intro j hj hj6
    rw [hok j _ hj6 (gp_xor (gp_div hb))]
    unfold MX
    rw [xor_half (hbx j), dd2]
    exact ⟨fun q => q.1, fun q => ⟨q, hnr (j + 1)⟩⟩
  have hPs : ∀ j, o ≤ j → (RF (fun c => F c ∨ c / 2 ^ o = b / 2 ^ o) (j + 1) (b / 2 ^ (j + 1)) ↔ RF (fun c => F c ∨ c / 2 ^ o = b / 2 ^ o) j (b / 2 ^ j) ∧ RF F j (b / 2 ^ j ^^^ 1)) := by
    intro j hj
    constructor
    · intro hr
      refine ⟨RF_mono (Nat.le_succ j) hr, (RFg_hi hj (xor_ne (hbx j))).mp (RF_up ?_)⟩
      rw [xor_half (hbx j), dd2]
      exact hr
    · rintro ⟨h1, h2⟩
      rw [← dd2]
      exact RF_join (hbx j) h1 ((RFg_hi hj (xor_ne (hbx j))).mpr h2)
  have hPu : ∀ d, o + d ≤ J → RF (fun c => F c ∨ c / 2 ^ o = b / 2 ^ o) (o + d) (b / 2 ^ (o + d)) := by
    intro d
    induction d with
    | zero => intro _ c hc; exact Or.inr hc
    | succ d ih =>
      intro hd
      exact (hPs (o + d) (by omega)).mpr ⟨ih (by omega), (hbud (o + d) (by omega) (by omega)).mp (hup (o + d) (by omega) (by omega))⟩
  have hPn : ¬ RF (fun c => F c ∨ c / 2 ^ o = b / 2 ^ o) (J + 1) (b / 2 ^ (J + 1)) := by
    rcases hend with e | e
    · rw [e]
      exact RF_not6 h32' _
    · intro hr
      have h1 := (hbud J hoJ hJ).mpr ((hPs J hoJ).mp hr).2
      rw [e] at h1
      cases h1
  have hP : ∀ j, o ≤ j → (RF (fun c => F c ∨ c / 2 ^ o = b / 2 ^ o) j (b / 2 ^ j) ↔ j ≤ J) := by
    intro j hj
    constructor
    · intro hr
      rcases Nat.lt_or_ge J j with z | z
      · exact absurd (RF_mono z hr) hPn
      · exact z
    · intro z
      have h1 := hPu (j - o) (by omega)
      rw [show o + (j - o) = j by omega] at h1
      exact h1
  intro j i hj hi
  have old := hok j i hj hi
  rw [hgb g j i hg hj hi]
  unfold MX at old ⊢
  rcases Nat.lt_or_ge j o with hjo | hjo
  · rw [if_neg (by omega), if_neg (by omega), old, RFg_lo (by omega), RFg_lo hjo, dd_lo hjo]
    by_cases e : i / 2 ^ (o - j) = b / 2 ^ o
    · have h1 : ¬ RF F j i := fun hr => hnf (i * 2 ^ j) (by rw [ddk _ (show j ≤ o by omega), ddx]; exact e) (hr _ (ddx i j))
      constructor
      · rintro ⟨h2, -⟩
        exact absurd h2 h1
      · rintro ⟨-, h2⟩
        exact absurd (Or.inr e) h2
    · constructor
      · rintro ⟨h1, h2⟩
        exact ⟨Or.inl h1, fun q => q.elim h2 e⟩
      · rintro ⟨h1, h2⟩
        exact ⟨h1.elim id (fun z => absurd z e), fun q => h2 (Or.inl q)⟩
  · by_cases ei : i = b / 2 ^ j
    · subst ei
      rw [hP j hjo, dd2, hP (j + 1) (by omega)]
      have hf : Bt fm g j (b / 2 ^ j) = false := by
        cases hq : Bt fm g j (b / 2 ^ j) with
        | false => rfl
        | true => exact absurd (old.mp hq).1 (hnr j)
      rw [hf]
      by_cases e1 : j = J
      · rw [if_pos ⟨rfl, e1⟩]
        simp [e1]
      · rw [if_neg (fun q => e1 q.2)]
        constructor
        · intro q
          split at q <;> simp at q
        · rintro ⟨h1, h2⟩
          omega
    · rw [RFg_hi hjo ei]
      by_cases e2 : i / 2 = b / 2 ^ j / 2
      · have ex : i = b / 2 ^ j ^^^ 1 := (half_two (hbx j) e2).resolve_left ei
        have hb1 : Bt fm g j i = true ↔ RF F j i := by rw [ex]; exact hbud j hjo hj
        rw [e2, dd2, hP (j + 1) (by omega)]
        by_cases e1 : j = J
        · rw [if_pos ⟨rfl, e1⟩, decide_eq_false ei, Bool.or_false, hb1]
          exact ⟨fun q => ⟨q, by omega⟩, fun q => q.1⟩
        · rw [if_neg (fun q => e1 q.2)]
          by_cases e3 : g = g ∧ o ≤ j ∧ j < J
          · rw [if_pos e3, decide_eq_true ex]
            constructor
            · intro q
              simp at q
            · rintro ⟨-, q⟩
              omega
          · rw [if_neg e3, hb1]
            exact ⟨fun q => ⟨q, by omega⟩, fun q => q.1⟩
      · have hx : ¬ i = b / 2 ^ j ^^^ 1 := fun q => e2 (by rw [q]; exact xor_half (hbx j))
        rw [RFg_hi (show o ≤ j + 1 by omega) (by rw [← dd2]; exact e2), ← old]
        by_cases e1 : j = J
        · rw [if_pos ⟨rfl, e1⟩, decide_eq_false ei, Bool.or_false]
        · rw [if_neg (fun q => e1 q.2)]
          by_cases e3 : g = g ∧ o ≤ j ∧ j < J
          · rw [if_pos e3, decide_eq_false hx]
            simp
          · rw [if_neg e3]
end
section
/-! the owners and the free runs; what both searches find; what both count -/
def fz (ow : Nat → Int32) (g b : Nat) : Prop := b < 32 ∧ ow (32 * g + b) = -1
theorem fz_32 (ow : Nat → Int32) (g : Nat) : In32 (fz ow g) := fun _ h => h.1
theorem run_in {o b c : Nat} (h : b % 2 ^ o = 0) : c / 2 ^ o = b / 2 ^ o ↔ b ≤ c ∧ c < b + 2 ^ o := by
  have hp := Nat.two_pow_pos o
  constructor
  · intro e
    have h1 := Nat.div_add_mod c (2 ^ o)
    have h2 := Nat.div_add_mod b (2 ^ o)
    have h3 := Nat.mod_lt c hp
    rw [e] at h1
    omega
  · rintro ⟨h1, h2⟩
    have e : b / 2 ^ o * 2 ^ o = b := Nat.div_mul_cancel (Nat.dvd_of_mod_eq_zero h)
    exact Nat.div_eq_of_lt_le (by omega) (by rw [Nat.add_mul, Nat.one_mul]; omega)
theorem six {P : Nat → Prop} {o : Nat} (ho : o < 6) (h0 : P 0) (h1 : P 1) (h2 : P 2) (h3 : P 3) (h4 : P 4) (h5 : P 5) : P o := by
  rcases (show o = 0 ∨ o = 1 ∨ o = 2 ∨ o = 3 ∨ o = 4 ∨ o = 5 by omega) with rfl | rfl | rfl | rfl | rfl | rfl <;> assumption
theorem mod32 {g o b : Nat} (ho : o < 6) : (32 * g + b) % 2 ^ o = b % 2 ^ o := by
  refine six (P := fun o => (32 * g + b) % 2 ^ o = b % 2 ^ o) ho ?_ ?_ ?_ ?_ ?_ ?_ <;> simp only [Nat.reducePow] <;> omega
theorem div32 {g o b c : Nat} (ho : o < 6) : (32 * g + c) / 2 ^ o = (32 * g + b) / 2 ^ o ↔ c / 2 ^ o = b / 2 ^ o := by
  refine six (P := fun o => (32 * g + c) / 2 ^ o = (32 * g + b) / 2 ^ o ↔ c / 2 ^ o = b / 2 ^ o) ho ?_ ?_ ?_ ?_ ?_ ?_ <;> simp only [Nat.reducePow] <;> omega
theorem fit32 {o b : Nat} (ho : o < 6) (hb : b < 32) (h : b % 2 ^ o = 0) : b + 2 ^ o ≤ 32 := by
  rcases (show o = 0 ∨ o = 1 ∨ o = 2 ∨ o = 3 ∨ o = 4 ∨ o = 5 by omega) with rfl | rfl | rfl | rfl | rfl | rfl <;> simp only [Nat.reducePow] at h ⊢ <;> omega
theorem RN_iff {ow : Nat → Int32} {g o b : Nat} (hb : b < 32) (ho : o < 6) : RN ow o (32 * g + b) ↔ b % 2 ^ o = 0 ∧ RF (fz ow g) o (b / 2 ^ o) := by
  unfold RN
  rw [mod32 ho]
  constructor
  · rintro ⟨h1, h2⟩
    refine ⟨h1, fun c hc => ⟨run32 ho hb hc, ?_⟩⟩
    have h3 := (run_in h1).mp hc
    exact h2 (32 * g + c) (by omega) (by omega)
  · rintro ⟨h1, h2⟩
    refine ⟨h1, fun x h3 h4 => ?_⟩
    have h5 := h2 (x - 32 * g) ((run_in h1).mpr ⟨by omega, by omega⟩)
    have h6 := h5.2
    rw [show 32 * g + (x - 32 * g) = x by omega] at h6
    exact h6
/-! the search -/
theorem gfr_ge (o l : Nat) : l ≤ gfr o l := by
  have hp := Nat.two_pow_pos o
  have h1 := Nat.div_add_mod (l + 2 ^ o - 1) (2 ^ o)
  have h2 := Nat.mod_lt (l + 2 ^ o - 1) hp
  unfold gfr
  rw [Nat.mul_comm]
  omega
theorem gfr_mod (o l : Nat) : gfr o l % 2 ^ o = 0 := Nat.mul_mod_left _ _
theorem gfr_le {o l b : Nat} (hb : b % 2 ^ o = 0) (h : l ≤ b) : gfr o l ≤ b := by
  have hp := Nat.two_pow_pos o
  have e : b / 2 ^ o * 2 ^ o = b := Nat.div_mul_cancel (Nat.dvd_of_mod_eq_zero hb)
  have h1 : (l + 2 ^ o - 1) / 2 ^ o < b / 2 ^ o + 1 := Nat.div_lt_of_lt_mul (by rw [Nat.mul_add, Nat.mul_one, Nat.mul_comm, e]; omega)
  unfold gfr
  calc (l + 2 ^ o - 1) / 2 ^ o * 2 ^ o ≤ b / 2 ^ o * 2 ^ o := Nat.mul_le_mul_right _ (by omega)
    _ = b := e
theorem base_fit {o j b : Nat} (hoj : o ≤ j) (hj : j < 6) (hb : b < 32) (h : b % 2 ^ o = 0) : b + 2 ^ o ≤ b / 2 ^ j * 2 ^ j + 2 ^ j := by
  rcases (show j = 0 ∨ j = 1 ∨ j = 2 ∨ j = 3 ∨ j = 4 ∨ j = 5 by omega) with rfl | rfl | rfl | rfl | rfl | rfl <;>
  rcases (show o = 0 ∨ o = 1 ∨ o = 2 ∨ o = 3 ∨ o = 4 ∨ o = 5 by omega) with rfl | rfl | rfl | rfl | rfl | rfl <;> simp only [Nat.reducePow] at h ⊢ <;> omega
theorem top32 {j i : Nat} (hj : j < 6) (h : i * 2 ^ j < 32) : i * 2 ^ j + 2 ^ j ≤ 32 := by
  rcases (show j = 0 ∨ j = 1 ∨ j = 2 ∨ j = 3 ∨ j = 4 ∨ j = 5 by omega) with rfl | rfl | rfl | rfl | rfl | rfl <;> simp only [Nat.reducePow] at h ⊢ <;> omega
theorem mul_mod_pow {o j i : Nat} (h : o ≤ j) : i * 2 ^ j % 2 ^ o = 0 := by
  rw [show j = o + (j - o) by omega, Nat.pow_add, Nat.mul_comm (2 ^ o), ← Nat.mul_assoc]
  exact Nat.mul_mod_left _ _
theorem SRF_spec {fm : Nat → Int32} {g o l f : Nat} {F : Nat → Prop} (hok : okM fm g F) (h32 : In32 F) (ho : o < 6) (h : SRF fm g o l f) : (∀ b, b < 32 → l ≤ b → b % 2 ^ o = 0 → RF F o (b / 2 ^ o) → f ≤ b) ∧ (f = 32 ∨ (l ≤ f ∧ f < 32 ∧ f % 2 ^ o = 0 ∧ RF F o (f / 2 ^ o))) := by
  constructor
  · intro b hb hl hm hr
    obtain ⟨j, hj, hoj, hf⟩ := (FR_iff hok h32 hb ho).mpr hr
    have h1 : b / 2 ^ j * 2 ^ j ≤ b := Nat.div_mul_le_self _ _
    have h2 := gfr_le hm hl
    have h3 := base_fit hoj hj hb hm
    have h4 := h.2.1 j (b / 2 ^ j) trivial ⟨hoj, hj, by omega, hf.1, by omega⟩
    omega
  · rcases h.2.2 with e | ⟨j, i, ⟨hoj, hj, hi, hbt, hfit⟩, e⟩
    · exact Or.inl e
    · right
      have h1 := gfr_ge o l
      have h2 := top32 hj hi
      have hp := Nat.two_pow_pos o
      have hpj := Nat.two_pow_pos j
      have hi32 : i < 32 := by
        rcases Nat.lt_or_ge i 32 with z | z
        · exact z
        · have h3 : 32 * 1 ≤ i * 2 ^ j := Nat.mul_le_mul z hpj
          omega
      have hdj : f / 2 ^ j = i := Nat.div_eq_of_lt_le (by omega) (by rw [Nat.add_mul, Nat.one_mul]; omega)
      refine ⟨by omega, by omega, ?_, ?_⟩
      · rcases Nat.le_total (i * 2 ^ j) (gfr o l) with z | z
        · rw [e, Nat.max_eq_right z]; exact gfr_mod o l
        · rw [e, Nat.max_eq_left z]; exact mul_mod_pow hoj
      · intro c hc
        exact ((hok j i hj hi32).mp hbt).1 c (by rw [dd_le hoj hc]; exact hdj)
theorem SR_f {fm ow : Nat → Int32} {g o l f : Nat} (hok : okM fm g (fz ow g)) (ho : o < 6) (h : SRF fm g o l f) (hf : f < 32) : MSf ow o (32 * g + l) (32 * g + 32) (32 * g + f) := by
  obtain ⟨h1, h2⟩ := SRF_spec hok (fz_32 ow g) ho h
  rcases h2 with e | ⟨h2, h3, h4, h5⟩
  · omega
  · refine ⟨by omega, by omega, (RN_iff h3 ho).mpr ⟨h4, h5⟩, fun c hc1 hc2 hr => ?_⟩
    rw [show c = 32 * g + (c - 32 * g) by omega, RN_iff (by omega) ho] at hr
    have h6 := h1 (c - 32 * g) (by omega) (by omega) hr.1 hr.2
    omega
theorem SR_n {fm ow : Nat → Int32} {g o l : Nat} (hok : okM fm g (fz ow g)) (ho : o < 6) (h : SRF fm g o l 32) : MSn ow o (32 * g + l) (32 * g + 32) := by
  obtain ⟨h1, h2⟩ := SRF_spec hok (fz_32 ow g) ho h
  intro c hc1 hc2 hr
  rw [show c = 32 * g + (c - 32 * g) by omega, RN_iff (by omega) ho] at hr
  have h6 := h1 (c - 32 * g) (by omega) (by omega) hr.1 hr.2
  omega
theorem MSf_one {ow : Nat → Int32} {o a z p q : Nat} (hp : MSf ow o a z p) (hq : MSf ow o a z q) : p = q := by
  rcases Nat.lt_trichotomy p q with r | r | r
  · exact absurd hp.2.2.1 (hq.2.2.2 p hp.1 r)
  · exact r
  · exact absurd hq.2.2.1 (hp.2.2.2 q hq.1 r)
theorem MSf_n {ow : Nat → Int32} {o a z p : Nat} (hp : MSf ow o a z p) (hn : MSn ow o a z) : False := hn p hp.1 hp.2.1 hp.2.2.1
theorem AMp_one {ow : Nat → Int32} {G o b p q : Nat} (hp : AMp ow G o b p) (hq : AMp ow G o b q) : p = q := by
  rcases hp with hp | ⟨hp0, a, ha, hpa, hp⟩ <;> rcases hq with hq | ⟨hq0, c, hc, hqc, hq⟩
  · exact MSf_one hp hq
  · exact (MSf_n hp hq0).elim
  · exact (MSf_n hq hp0).elim
  · rcases Nat.lt_trichotomy a c with r | r | r
    · exact (MSf_n hp (hqc a r)).elim
    · subst r
      exact MSf_one hp hq
    · exact (MSf_n hq (hpa c r)).elim
theorem AMp_n {ow : Nat → Int32} {G o b p : Nat} (hp : AMp ow G o b p) (hn : AMn ow G o b G) : False := by
  rcases hp with hp | ⟨hp0, a, ha, hpa, hp⟩
  · exact MSf_n hp hn.1
  · exact MSf_n hp (hn.2 a ha)
theorem AMp_RN {ow : Nat → Int32} {G o b p : Nat} (hp : AMp ow G o b p) : RN ow o p := by
  rcases hp with hp | ⟨hp0, a, ha, hpa, hp⟩
  · exact hp.2.2.1
  · exact hp.2.2.1
/-- what allocate does here and there -/
theorem allo_match {fm oa ow od : Nat → Int32} {ec r r' : Int32} {G o b : Nat} {u : Int32 × Int32 × (Nat → Int32) × (Nat → Int32)} {u' : (Nat → Int32) × (Nat → Int32)} (hG : 0 < G) (hok : ∀ g, g < G → okM fm g (fz ow g)) (ho : o < 6) (hb : b < 32 * G) (hx : ax_allo fm oa ec G o b r u) (hm : am_allo ow od G o b r' u') :
    (∃ g f, g < G ∧ f < 32 ∧ RN ow o (32 * g + f) ∧ MK fm oa ec g o f r u ∧ mkM ow od o (32 * g + f) r' u') ∨ (r = -2 ∧ r' = -2 ∧ (∃ fd', u = (ec, fd', fm, oa)) ∧ u' = (ow, od)) := by
  have hg0 : b / 32 < G := by omega
  have eb : 32 * (b / 32) + b % 32 = b := Nat.div_add_mod b 32
  have hmod : ∀ a, (b / 32 + a) % G < G := fun a => Nat.mod_lt _ hG
  have key : (∃ g f, g < G ∧ f < 32 ∧ AMp ow G o b (32 * g + f) ∧ MK fm oa ec g o f r u) ∨ (AMn ow G o b G ∧ r = -2 ∧ ∃ fd', u = (ec, fd', fm, oa)) := by
    rcases hx with ⟨f, hf, hsr, hmk⟩ | ⟨hsr, ⟨k, f, hk, hno, hf, hsr2, hmk⟩ | ⟨hno, hr, hu⟩⟩
    · have h1 := SR_f (hok _ hg0) ho hsr hf
      rw [eb] at h1
      exact Or.inl ⟨b / 32, f, hg0, hf, Or.inl h1, hmk⟩
    · have h1 := SR_n (hok _ hg0) ho hsr
      rw [eb] at h1
      have h2 := SR_f (hok _ (hmod k)) ho hsr2 hf
      exact Or.inl ⟨_, f, hmod k, hf, Or.inr ⟨h1, k, hk, fun c hc => SR_n (hok _ (hmod c)) ho (hno c hc), h2⟩, hmk⟩
    · have h1 := SR_n (hok _ hg0) ho hsr
      rw [eb] at h1
      exact Or.inr ⟨⟨h1, fun c hc => SR_n (hok _ (hmod c)) ho (hno c hc)⟩, hr, hu⟩
  rcases key with ⟨g, f, hg, hf, hp, hmk⟩ | ⟨hn, hr, hu⟩ <;> rcases hm with ⟨p, hp1, hp2, hp3, hp4⟩ | ⟨hn2, hr2, hu2⟩
  · have e := AMp_one hp hp3
    subst e
    exact Or.inl ⟨g, f, hg, hf, AMp_RN hp, hmk, hp4⟩
  · exact (AMp_n hp hn2).elim
  · exact (AMp_n hp3 hn).elim
  · exact Or.inr ⟨hr, hr2, hu, hu2⟩
/-! counting -/
noncomputable def bp (P : Prop) : Bool := @decide P (Classical.propDecidable P)
theorem bp_t {P : Prop} (h : P) : bp P = true := by unfold bp; exact @decide_eq_true _ (Classical.propDecidable _) h
theorem bp_f {P : Prop} (h : ¬ P) : bp P = false := by unfold bp; exact @decide_eq_false _ (Classical.propDecidable _) h
theorem bp_iff {P Q : Prop} (h : P ↔ Q) : bp P = bp Q := by rw [propext h]
theorem bp_of {P : Prop} {β : Bool} (h : β = true ↔ P) : β = bp P := by
  cases β with
  | true => rw [bp_t (h.mp rfl)]
  | false => rw [bp_f (fun q => by have := h.mpr q; cases this)]
/-- the number of free runs of order k -/
noncomputable def cR (f : Nat → Prop) (k : Nat) : Nat := fb_sm (fun i => (bp (RF f k i)).toNat) 32
noncomputable def cM (f : Nat → Prop) (k : Nat) : Nat := fb_sm (fun i => (bp (MX f k i)).toNat) 32
theorem sm_half (h : Nat → Nat) : ∀ n, fb_sm (fun i => h (i / 2)) (2 * n) = 2 * fb_sm h n
  | 0 => rfl
  | n + 1 => by
    rw [show 2 * (n + 1) = 2 * n + 1 + 1 by omega, fb_sm_succ, fb_sm_succ, fb_sm_succ, sm_half h n, show 2 * n / 2 = n by omega, show (2 * n + 1) / 2 = n by omega]
    omega
theorem cR_s {f : Nat → Prop} (h32 : In32 f) (k : Nat) : cR f k = cM f k + 2 * cR f (k + 1) := by
  have h1 : cR f k = fb_sm (fun i => (bp (MX f k i)).toNat + (bp (RF f (k + 1) (i / 2))).toNat) 32 := by
    refine fb_sm_cong (fun i _ => ?_)
    show (bp (RF f k i)).toNat = _
    by_cases hu : RF f (k + 1) (i / 2)
    · rw [bp_t (RF_up hu), bp_f (show ¬ MX f k i from fun q => q.2 hu), bp_t hu]; rfl
    · rw [bp_f hu]
      by_cases hr : RF f k i
      · rw [bp_t hr, bp_t (show MX f k i from ⟨hr, hu⟩)]; rfl
      · rw [bp_f hr, bp_f (show ¬ MX f k i from fun q => hr q.1)]; rfl
  have h2 : fb_sm (fun i => (bp (RF f (k + 1) (i / 2))).toNat) 32 = 2 * fb_sm (fun i => (bp (RF f (k + 1) i)).toNat) 16 := sm_half (fun i => (bp (RF f (k + 1) i)).toNat) 16
  have h3 : cR f (k + 1) = fb_sm (fun i => (bp (RF f (k + 1) i)).toNat) 16 := by
    have h4 := fb_sm_split (fun i => (bp (RF f (k + 1) i)).toNat) 16 16
    have h5 : fb_sm (fun i => (bp (RF f (k + 1) (16 + i))).toNat) 16 = fb_sm (fun _ => 0) 16 := by
      refine fb_sm_cong (fun i _ => ?_)
      rw [bp_f (RF_big h32 ?_)]; rfl
      have h6 : 2 ^ 1 ≤ 2 ^ (k + 1) := Nat.pow_le_pow_right (by decide) (by omega)
      have h7 : 16 * 2 ^ 1 ≤ (16 + i) * 2 ^ (k + 1) := Nat.mul_le_mul (by omega) h6
      omega
    have h8 := fb_sm_const 0 16
    show fb_sm (fun i => (bp (RF f (k + 1) i)).toNat) (16 + 16) = _
    rw [h4, h5, h8]
    rfl
  have h9 := fb_sm_add (fun i => (bp (MX f k i)).toNat) (fun i => (bp (RF f (k + 1) (i / 2))).toNat) 32
  rw [h1, h9, h2, h3]
  rfl
theorem cR_6 {f : Nat → Prop} (h32 : In32 f) : cR f 6 = 0 := by
  have h1 : cR f 6 = fb_sm (fun _ => 0) 32 := by
    refine fb_sm_cong (fun i _ => ?_)
    rw [bp_f (RF_not6 h32 i)]; rfl
  rw [h1, fb_sm_const]
theorem sm_mul (c : Nat) (h : Nat → Nat) : ∀ n, fb_sm (fun i => h i * c) n = fb_sm h n * c
  | 0 => by show 0 = 0 * c; omega
  | n + 1 => by rw [fb_sm_succ, fb_sm_succ, sm_mul c h n, Nat.add_mul]
theorem fr1_M {fm : Nat → Int32} {g : Nat} {F : Nat → Prop} (hok : okM fm g F) {j : Nat} (hj : j < 6) (t : Nat) : fr1 (fm (6 * g + j)) t 32 = cM F j * 2 ^ t := by
  unfold fr1 cM
  rw [sm_mul]
  refine congrArg (· * 2 ^ t) (fb_sm_cong (fun i hi => ?_))
  exact congrArg Bool.toNat (bp_of (hok j i hj hi))
theorem fr2_R {fm : Nat → Int32} {g : Nat} {F : Nat → Prop} (hok : okM fm g F) (h32 : In32 F) (o : Nat) : ∀ n, o + n ≤ 6 → fr2 fm g o n + cR F (o + n) * 2 ^ n = cR F o
  | 0, _ => by
    show 0 + cR F o * 2 ^ 0 = cR F o
    omega
  | n + 1, h => by
    have ih := fr2_R hok h32 o n (by omega)
    have h1 : fr2 fm g o (n + 1) = fr2 fm g o n + fr1 (fm (6 * g + (o + n))) n 32 := rfl
    rw [h1, fr1_M hok (by omega)]
    rw [cR_s h32 (o + n), Nat.add_mul] at ih
    have h2 : 2 * cR F (o + n + 1) * 2 ^ n = cR F (o + (n + 1)) * 2 ^ (n + 1) := by
      rw [Nat.pow_succ, show o + n + 1 = o + (n + 1) by omega, Nat.mul_comm 2, Nat.mul_assoc, Nat.mul_comm 2]
    omega
theorem fr2_all {fm : Nat → Int32} {g o : Nat} {F : Nat → Prop} (hok : okM fm g F) (h32 : In32 F) (ho : o < 6) : fr2 fm g o (6 - o) = cR F o := by
  have h1 := fr2_R hok h32 o (6 - o) (by omega)
  rw [show o + (6 - o) = 6 by omega, cR_6 h32] at h1
  omega
theorem ct_sm (p : Nat → Bool) : ∀ n, fb_ct p n = fb_sm (fun i => (p i).toNat) n
  | 0 => rfl
  | n + 1 => by
    rw [fb_ct_succ, fb_sm_succ, ct_sm p n]
    cases p n <;> rfl
/-- over d * n places, those at the multiples of d -/
theorem ct_mult {d : Nat} (hd : 0 < d) (R : Nat → Bool) : ∀ n, fb_ct (fun t => decide (t % d = 0) && R (t / d)) (d * n) = fb_ct R n
  | 0 => rfl
  | n + 1 => by
    rw [Nat.mul_add, Nat.mul_one, fb_ct_split, ct_mult hd R n, fb_ct_succ]
    obtain ⟨e, rfl⟩ : ∃ e, d = 1 + e := ⟨d - 1, by omega⟩
    rw [fb_ct_split]
    have h1 : fb_ct (fun k => decide (((1 + e) * n + k) % (1 + e) = 0) && R (((1 + e) * n + k) / (1 + e))) 1 = if R n then 1 else 0 := by
      show 0 + (if (decide (((1 + e) * n + 0) % (1 + e) = 0) && R (((1 + e) * n + 0) / (1 + e))) = true then 1 else 0) = _
      rw [Nat.add_zero, Nat.mul_mod_right, Nat.mul_div_cancel_left _ hd]
      simp
    have h2 : fb_ct (fun k => decide (((1 + e) * n + (1 + k)) % (1 + e) = 0) && R (((1 + e) * n + (1 + k)) / (1 + e))) e = 0 := by
      refine fb_ct_zero.mpr (fun k hk => ?_)
      rw [Nat.mul_add_mod, Nat.mod_eq_of_lt (by omega), decide_eq_false (by omega)]
      rfl
    rw [h1, h2]
    rfl
theorem cR_ct {f : Nat → Prop} (h32 : In32 f) {o : Nat} (ho : o < 6) : fb_ct (fun i => bp (RF f o i)) (2 ^ (5 - o)) = cR f o := by
  have hp : 2 ^ (5 - o) * 2 ^ o = 32 := by rw [← Nat.pow_add, show 5 - o + o = 5 by omega]
  have hle : 2 ^ (5 - o) ≤ 32 := by have := Nat.pow_le_pow_right (n := 2) (by decide) (show 5 - o ≤ 5 by omega); omega
  unfold cR
  rw [ct_sm]
  have h1 := fb_sm_split (fun i => (bp (RF f o i)).toNat) (2 ^ (5 - o)) (32 - 2 ^ (5 - o))
  rw [show 2 ^ (5 - o) + (32 - 2 ^ (5 - o)) = 32 by omega] at h1
  have h2 : fb_sm (fun i => (bp (RF f o (2 ^ (5 - o) + i))).toNat) (32 - 2 ^ (5 - o)) = fb_sm (fun _ => 0) (32 - 2 ^ (5 - o)) := by
    refine fb_sm_cong (fun i _ => ?_)
    rw [bp_f (RF_big h32 ?_)]; rfl
    rw [Nat.add_mul, hp]
    omega
  rw [h1, h2, fb_sm_const]
  omega
theorem runs_group {ow : Nat → Int32} {g o : Nat} (ho : o < 6) : fb_ct (fun t => rnB ow o (32 * g + t)) 32 = cR (fz ow g) o := by
  have hp : 2 ^ o * 2 ^ (5 - o) = 32 := by rw [← Nat.pow_add, show o + (5 - o) = 5 by omega]
  rw [← cR_ct (fz_32 ow g) ho, ← ct_mult (Nat.two_pow_pos o) (fun i => bp (RF (fz ow g) o i)) (2 ^ (5 - o)), hp]
  refine fb_ct_cong (fun t ht => ?_)
  by_cases h : RN ow o (32 * g + t)
  · rw [rnB_t h]
    rw [RN_iff ht ho] at h
    rw [decide_eq_true h.1, bp_t h.2]
    rfl
  · rw [rnB_f h]
    rw [RN_iff ht ho] at h
    by_cases h1 : t % 2 ^ o = 0
    · rw [bp_f (fun q => h ⟨h1, q⟩), Bool.and_false]
    · rw [decide_eq_false h1, Bool.false_and]
theorem runs_all {ow fm : Nat → Int32} {o : Nat} (ho : o < 6) : ∀ G, (∀ g, g < G → okM fm g (fz ow g)) → fr3 fm o G = fb_ct (rnB ow o) (32 * G)
  | 0, _ => rfl
  | G + 1, h => by
    have ih := runs_all (ow := ow) (fm := fm) ho G (fun g hg => h g (by omega))
    have h1 : fr3 fm o (G + 1) = fr3 fm o G + fr2 fm G o (6 - o) := rfl
    rw [h1, ih, fr2_all (h G (by omega)) (fz_32 ow G) ho, Nat.mul_add, fb_ct_split, ← runs_group ho]
theorem blocks_group {ow fm : Nat → Int32} {g : Nat} (h : okM fm g (fz ow g)) : fr2 fm g 0 6 = fb_ct (fun t => decide (ow (32 * g + t) = -1)) 32 := by
  have h1 := fr2_all h (fz_32 ow g) (show 0 < 6 by decide)
  have h2 : fr2 fm g 0 6 = cR (fz ow g) 0 := h1
  rw [h2, ct_sm]
  refine fb_sm_cong (fun i hi => ?_)
  have h3 : RF (fz ow g) 0 i ↔ ow (32 * g + i) = -1 := by
    constructor
    · intro q
      exact (q i (by show i / 1 = i; omega)).2
    · intro q c hc
      have e : c = i := by rw [Nat.pow_zero, Nat.div_one] at hc; exact hc
      subst e
      exact ⟨hi, q⟩
  by_cases q : ow (32 * g + i) = -1
  · rw [bp_t (h3.mpr q), decide_eq_true q]
  · rw [bp_f (fun z => q (h3.mp z)), decide_eq_false q]
/-! the largest free run -/
theorem fm_zero {fm : Nat → Int32} {g j : Nat} : fm (6 * g + j) = 0 ↔ ∀ i, i < 32 → Bt fm g j i = false := by
  constructor
  · intro h i _
    unfold Bt
    rw [h]
    exact b_0 i
  · intro h
    exact b_ext (fun i hi => by rw [b_0]; exact h i hi)
theorem MS_RF {ow : Nat → Int32} {g o : Nat} (ho : o < 6) : MSn ow o (32 * g) (32 * g + 32) ↔ ∀ i, ¬ RF (fz ow g) o i := by
  constructor
  · intro h i hr
    have h1 : i * 2 ^ o < 32 := by
      rcases Nat.lt_or_ge (i * 2 ^ o) 32 with z | z
      · exact z
      · exact absurd hr (RF_big (fz_32 ow g) z)
    exact h (32 * g + i * 2 ^ o) (by omega) (by omega) ((RN_iff h1 ho).mpr ⟨Nat.mul_mod_left _ _, by rw [ddx]; exact hr⟩)
  · intro h c hc1 hc2 hr
    rw [show c = 32 * g + (c - 32 * g) by omega, RN_iff (by omega) ho] at hr
    exact h _ hr.2
theorem large_match {fm ow : Nat → Int32} {g : Nat} {r r' : Int32} (hok : okM fm g (fz ow g)) (hx : XL fm g r) (hm : XLm ow g r') : r = r' := by
  have hz : ∀ q, q < 6 → (∀ i, ¬ RF (fz ow g) q i) → fm (6 * g + q) = 0 := by
    intro q hq h
    refine fm_zero.mpr (fun i hi => ?_)
    cases e : Bt fm g q i with
    | false => rfl
    | true => exact absurd ((hok q i hq hi).mp e).1 (h i)
  rcases hm with ⟨o, ho, rfl, ⟨p, hp⟩, hup⟩ | ⟨rfl, hno⟩
  · have hex : ∃ i, RF (fz ow g) o i := by
      have h1 := hp.2.2.1
      have h3 := hp.1
      have h4 := hp.2.1
      rw [show p = 32 * g + (p - 32 * g) by omega, RN_iff (by omega) ho] at h1
      exact ⟨_, h1.2⟩
    obtain ⟨i, hi⟩ := hex
    have hi32 : i < 32 := by
      rcases Nat.lt_or_ge i 32 with z | z
      · exact z
      · have h3 : 32 * 1 ≤ i * 2 ^ o := Nat.mul_le_mul z (Nat.two_pow_pos o)
        exact absurd hi (RF_big (fz_32 ow g) (by omega))
    have hnz : ¬ fm (6 * g + o) = 0 := by
      intro h
      have h1 := fm_zero.mp h i hi32
      have h2 : MX (fz ow g) o i := by
        refine ⟨hi, ?_⟩
        rcases Nat.lt_or_ge (o + 1) 6 with z | z
        · exact (MS_RF z).mp (hup (o + 1) (by omega) z) _
        · rw [show o = 5 by omega]
          exact RF_not6 (fz_32 ow g) _
      rw [(hok o i ho hi32).mpr h2] at h1
      cases h1
    rcases hx with ⟨k, hk, rfl, hk1, hk2⟩ | ⟨rfl, hx⟩
    · have e : k = o := by
        rcases Nat.lt_trichotomy k o with z | z | z
        · exact absurd (hk2 o z ho) hnz
        · exact z
        · exact absurd (hz k hk ((MS_RF hk).mp (hup k z hk))) hk1
      rw [e]
    · exact absurd (hx o ho) hnz
  · rcases hx with ⟨k, hk, rfl, hk1, hk2⟩ | ⟨rfl, hx⟩
    · exact absurd (hz k hk ((MS_RF hk).mp (hno k hk))) hk1
    · rfl
end
section
/-! the tie between the two, kept by every call -/
def EXT (G : Nat) (ec : Int32) (oa ow od : Nat → Int32) : Prop :=
  (∀ b, b < 32 * G → ow b = -1 ∨ ∃ s, s < 32 * G ∧ ow b = nI s ∧ ow s = nI s) ∧
  (∀ s, s < 32 * G → ow s = nI s → ∃ k, k < 6 ∧ od s = nI k ∧ oa s = nI k ∧ s % 2 ^ k = 0 ∧ ∀ c, c < 32 * G → (c / 2 ^ k = s / 2 ^ k ↔ ow c = nI s)) ∧
  (∀ s, s < 32 * G → ¬ ow s = nI s → oa s = -1) ∧
  ec = nI (fb_ct (fun b => decide (ow b = nI b)) (32 * G))
theorem nI_inj {a b : Nat} (ha : a < 2 ^ 31) (hb : b < 2 ^ 31) (h : nI a = nI b) : a = b := (nI_eq ha hb).mp h
/-- the extent at s is made, changed or taken away: v, its new order -/
theorem EXT_upd {G s : Nat} {ec ec' : Int32} {oa ow od oa' ow' od' : Nat → Int32} (hG : G ≤ 4) (h : EXT G ec oa ow od) (hs : s < 32 * G) (v : Option Nat)
    (H1 : ∀ k, v = some k → k < 6 ∧ s % 2 ^ k = 0 ∧ ∀ c, c < 32 * G → c / 2 ^ k = s / 2 ^ k → ow c = -1 ∨ ow c = nI s)
    (H2 : ∀ c, c < 32 * G → (∃ k, v = some k ∧ c / 2 ^ k = s / 2 ^ k) → ow' c = nI s)
    (H2n : ∀ c, c < 32 * G → ¬ (∃ k, v = some k ∧ c / 2 ^ k = s / 2 ^ k) → ow c = nI s → ow' c = -1)
    (H2o : ∀ c, c < 32 * G → ¬ (∃ k, v = some k ∧ c / 2 ^ k = s / 2 ^ k) → ¬ ow c = nI s → ow' c = ow c)
    (H3 : ∀ c, c < 32 * G → ¬ c = s → oa' c = oa c ∧ od' c = od c) (H4 : ∀ k, v = some k → oa' s = nI k ∧ od' s = nI k) (H5 : v = none → oa' s = -1)
    (H6 : ∀ N, ec = nI N → ∀ N', N' + (if ow s = nI s then 1 else 0) = N + (if v = none then 0 else 1) → ec' = nI N') : EXT G ec' oa' ow' od' := by
  obtain ⟨A1, A2, A3, A4⟩ := h
  have hb31 : ∀ {c : Nat}, c < 32 * G → c < 2 ^ 31 := fun hc => by omega
  have hne : ∀ {c : Nat}, c < 32 * G → ¬ nI c = -1 := fun hc => gn_m1 (hb31 hc)
  -- s itself
  have hss : ow' s = nI s ↔ ¬ v = none := by
    constructor
    · rintro e rfl
      have hnc : ¬ (∃ k, (none : Option Nat) = some k ∧ s / 2 ^ k = s / 2 ^ k) := fun ⟨k, q, _⟩ => by cases q
      by_cases q : ow s = nI s
      · rw [H2n s hs hnc q] at e
        exact hne hs e.symm
      · rw [H2o s hs hnc q] at e
        exact q e
    · intro hv
      cases hq : v with
      | none => exact absurd hq hv
      | some k => exact H2 s hs ⟨k, hq, rfl⟩
  -- the others
  have hot : ∀ t, t < 32 * G → ¬ t = s → ∀ c, c < 32 * G → (ow' c = nI t ↔ ow c = nI t) := by
    intro t ht hts c hc
    have htn : ¬ nI s = nI t := fun q => hts (nI_inj (hb31 hs) (hb31 ht) q).symm
    by_cases hcv : ∃ k, v = some k ∧ c / 2 ^ k = s / 2 ^ k
    · rw [H2 c hc hcv]
      obtain ⟨k, hk, hck⟩ := hcv
      constructor
      · intro q
        exact absurd q htn
      · intro q
        rcases (H1 k hk).2.2 c hc hck with z | z
        · rw [z] at q
          exact absurd q.symm (hne ht)
        · rw [z] at q
          exact absurd q htn
    · by_cases hcs : ow c = nI s
      · rw [H2n c hc hcv hcs, hcs]
        constructor
        · intro q
          exact absurd q.symm (hne ht)
        · intro q
          exact absurd q htn
      · rw [H2o c hc hcv hcs]
  refine ⟨?_, ?_, ?_, ?_⟩
  · intro b hb
    by_cases hcv : ∃ k, v = some k ∧ b / 2 ^ k = s / 2 ^ k
    · right
      obtain ⟨k, hk, hck⟩ := id hcv
      exact ⟨s, hs, H2 b hb hcv, hss.mpr (by rw [hk]; simp)⟩
    · by_cases hcs : ow b = nI s
      · exact Or.inl (H2n b hb hcv hcs)
      · have e := H2o b hb hcv hcs
        rcases A1 b hb with z | ⟨s1, hs1, z1, z2⟩
        · exact Or.inl (by rw [e]; exact z)
        · have hne1 : ¬ s1 = s := fun q => hcs (by rw [z1, q])
          exact Or.inr ⟨s1, hs1, by rw [e]; exact z1, (hot s1 hs1 hne1 s1 hs1).mpr z2⟩
  · intro t ht e
    by_cases hts : t = s
    · subst hts
      have hv := hss.mp e
      cases hq : v with
      | none => exact absurd hq hv
      | some k =>
        obtain ⟨h1, h2, h3⟩ := H1 k hq
        obtain ⟨h4, h5⟩ := H4 k hq
        refine ⟨k, h1, h5, h4, h2, fun c hc => ⟨fun q => H2 c hc ⟨k, hq, q⟩, fun q => ?_⟩⟩
        apply Classical.byContradiction
        intro hn
        have hcv : ¬ ∃ k, v = some k ∧ c / 2 ^ k = t / 2 ^ k := by
          rintro ⟨k2, e2, e3⟩
          rw [hq] at e2
          cases e2
          exact hn e3
        by_cases hcs : ow c = nI t
        · rw [H2n c hc hcv hcs] at q
          exact hne ht q.symm
        · rw [H2o c hc hcv hcs] at q
          exact hcs q
    · have e1 := (hot t ht hts t ht).mp e
      obtain ⟨k, h1, h2, h3, h4, h5⟩ := A2 t ht e1
      obtain ⟨h6, h7⟩ := H3 t ht hts
      exact ⟨k, h1, by rw [h7]; exact h2, by rw [h6]; exact h3, h4, fun c hc => (h5 c hc).trans (hot t ht hts c hc).symm⟩
  · intro t ht e
    by_cases hts : t = s
    · subst hts
      refine H5 ?_
      apply Classical.byContradiction
      intro q
      exact e (hss.mpr q)
    · rw [(H3 t ht hts).1]
      exact A3 t ht (fun q => e ((hot t ht hts t ht).mpr q))
  · refine H6 _ A4 _ ?_
    have h1 : fb_ct (fun b => decide (ow' b = nI b)) (32 * G) = fb_ct (fun b => if b = s then !decide (v = none) else decide (ow b = nI b)) (32 * G) := by
      refine fb_ct_cong (fun b hb => ?_)
      by_cases hbs : b = s
      · subst hbs
        rw [if_pos rfl]
        by_cases hv : v = none
        · rw [decide_eq_false (fun q => hss.mp q hv), decide_eq_true hv]; rfl
        · rw [decide_eq_true (hss.mpr hv), decide_eq_false hv]; rfl
      · rw [if_neg hbs]
        by_cases q : ow b = nI b
        · rw [decide_eq_true q, decide_eq_true ((hot b hb hbs b hb).mpr q)]
        · rw [decide_eq_false q, decide_eq_false (fun z => q ((hot b hb hbs b hb).mp z))]
    have h2 := fb_ct_upd (fun b => decide (ow b = nI b)) (!decide (v = none)) hs
    rw [h1]
    by_cases hv : v = none <;> by_cases hq : ow s = nI s <;> simp [hv, hq] at h2 ⊢ <;> exact h2
/-- all that ties the two -/
def INV (G : Nat) (ec : Int32) (fm oa ow od : Nat → Int32) : Prop := 0 < G ∧ G ≤ 4 ∧ (∀ g, g < G → okM fm g (fz ow g)) ∧ EXT G ec oa ow od
theorem INV_wfO {G : Nat} {ec : Int32} {fm oa ow od : Nat → Int32} (h : INV G ec fm oa ow od) : wfO G oa := by
  intro b hb
  by_cases q : ow b = nI b
  · obtain ⟨k, h1, -, h3, h4, -⟩ := h.2.2.2.2.1 b hb q
    exact Or.inr ⟨k, h1, h3, h4⟩
  · exact Or.inl (h.2.2.2.2.2.1 b hb q)
theorem INV_wfM {G : Nat} {ec : Int32} {fm oa ow od : Nat → Int32} (h : INV G ec fm oa ow od) : wfM G ow od := by
  intro b hb q
  obtain ⟨k, h1, h2, h3, h4, -⟩ := h.2.2.2.2.1 b hb q
  exact ⟨k, h1, h2, h4⟩
theorem INV_ext {G b : Nat} {ec : Int32} {fm oa ow od : Nat → Int32} (h : INV G ec fm oa ow od) (hb : b < 32 * G) : ¬ oa b < 0 ↔ ow b = nI b := by
  constructor
  · intro c
    apply Classical.byContradiction
    intro q
    rw [h.2.2.2.2.2.1 b hb q] at c
    exact c (by decide)
  · intro q
    obtain ⟨k, h1, h2, h3, h4, -⟩ := h.2.2.2.2.1 b hb q
    rw [h3]
    exact gn_nlt (by omega)
theorem INV_ok {G : Nat} {ec : Int32} {fm oa ow od : Nat → Int32} {x : Int32} (h : INV G ec fm oa ow od) : okE G oa x ↔ okF G ow x := by
  constructor
  · rintro ⟨b, hb, e, c⟩
    exact ⟨b, hb, e, (INV_ext h hb).mp c⟩
  · rintro ⟨b, hb, e, c⟩
    exact ⟨b, hb, e, (INV_ext h hb).mpr c⟩
theorem okM_cong {fm : Nat → Int32} {g : Nat} {F F' : Nat → Prop} (h : okM fm g F) (e : ∀ c, F c ↔ F' c) : okM fm g F' := by
  rw [← show F = F' from funext fun c => propext (e c)]
  exact h
theorem okM_fm {fm fm' : Nat → Int32} {g : Nat} {F : Nat → Prop} (h : okM fm g F) (e : ∀ j i, j < 6 → i < 32 → Bt fm' g j i = Bt fm g j i) : okM fm' g F := by
  intro j i hj hi
  rw [e j i hj hi]
  exact h j i hj hi
theorem flF_in {ow : Nat → Int32} {a n b : Nat} {v : Int32} (h : a ≤ b ∧ b < a + n) : flF ow a n v b = v := if_pos h
theorem flF_out {ow : Nat → Int32} {a n b : Nat} {v : Int32} (h : ¬ (a ≤ b ∧ b < a + n)) : flF ow a n v b = ow b := if_neg h
theorem grp {g q f c : Nat} (hf : f < 32) (hc : c < 32) (h : 32 * g + f = 32 * q + c) : g = q ∧ f = c := by omega
/-- a free run is taken: allocate, claim -/
theorem INV_make {G g f o : Nat} {ec r r' : Int32} {fm oa ow od : Nat → Int32} {u : Int32 × Int32 × (Nat → Int32) × (Nat → Int32)} {u' : (Nat → Int32) × (Nat → Int32)} (h : INV G ec fm oa ow od) (hg : g < G) (hf : f < 32) (ho : o < 6) (hrn : RN ow o (32 * g + f)) (hx : MK fm oa ec g o f r u) (hm : mkM ow od o (32 * g + f) r' u') : r = r' ∧ INV G u.1 u.2.2.1 u.2.2.2 u'.1 u'.2 := by
  obtain ⟨hG0, hG, hok, hext⟩ := h
  obtain ⟨J0, hJ0, hF, rfl, fm', hcv, rfl⟩ := hx
  obtain ⟨rfl, rfl⟩ := hm
  refine ⟨rfl, hG0, hG, ?_, ?_⟩
  · intro q hq
    have hal := ((RN_iff hf ho).mp hrn).1
    have hft := fit32 ho hf hal
    show okM fm' q (fz (flF ow (32 * g + f) (2 ^ o) (nI (32 * g + f))) q)
    by_cases e : q = g
    · subst e
      have hoJ : o ≤ J0 := by
        obtain ⟨j, hj, hoj, hfo⟩ := (FR_iff (hok q hq) (fz_32 ow q) hf ho).mpr ((RN_iff hf ho).mp hrn).2
        rw [FOA_one hF hfo]; exact hoj
      refine okM_cong (CV_ok (hok q hq) (by omega) hf hJ0 hoJ hF hcv) (fun c => ?_)
      rw [run_in hal]
      unfold fz
      by_cases z : f ≤ c ∧ c < f + 2 ^ o
      · rw [flF_in (show 32 * q + f ≤ 32 * q + c ∧ 32 * q + c < 32 * q + f + 2 ^ o by omega)]
        exact ⟨fun y => absurd z y.2, fun y => absurd y.2 (gn_m1 (by omega))⟩
      · rw [flF_out (show ¬ (32 * q + f ≤ 32 * q + c ∧ 32 * q + c < 32 * q + f + 2 ^ o) by omega)]
        exact ⟨fun y => y.1, fun y => ⟨y, z⟩⟩
    · refine okM_cong (okM_fm (hok q hq) (fun j i hj hi => ?_)) (fun c => ?_)
      · rw [hcv q j i (by omega) hj hi, if_neg (fun z => e z.1), if_neg (fun z => e z.1)]
      · unfold fz
        constructor
        · rintro ⟨y1, y2⟩
          exact ⟨y1, by rw [flF_out (by omega)]; exact y2⟩
        · rintro ⟨y1, y2⟩
          rw [flF_out (by omega)] at y2
          exact ⟨y1, y2⟩
  · have hp : 32 * g + f < 32 * G := by omega
    have hal : (32 * g + f) % 2 ^ o = 0 := hrn.1
    have hpm : ow (32 * g + f) = -1 := hrn.2 _ (Nat.le_refl _) (by have := Nat.two_pow_pos o; omega)
    have hno : ∀ c, c < 32 * G → ¬ ow c = nI (32 * g + f) := by
      intro c hc q
      rcases hext.1 c hc with z | ⟨s, hs, z1, z2⟩
      · rw [z] at q
        exact gn_m1 (by omega) q.symm
      · rw [q] at z1
        have e := nI_inj (by omega) (by omega) z1
        rw [e, z2, ← e] at hpm
        exact gn_m1 (by omega) hpm
    refine EXT_upd hG hext hp (some o) ?_ ?_ ?_ ?_ ?_ ?_ ?_ ?_
    · rintro k e
      cases e
      refine ⟨ho, hal, fun c hc q => Or.inl ?_⟩
      have h1 := (run_in hal).mp q
      exact hrn.2 c h1.1 h1.2
    · rintro c hc ⟨k, e, q⟩
      cases e
      exact flF_in ((run_in hal).mp q)
    · intro c hc _ q
      exact absurd q (hno c hc)
    · intro c hc q _
      exact flF_out (fun z => q ⟨o, rfl, (run_in hal).mpr z⟩)
    · intro c hc q
      exact ⟨pk_un q, pk_un q⟩
    · rintro k e
      cases e
      exact ⟨pk_us, pk_us⟩
    · intro e
      cases e
    · intro N e N' q
      rw [if_neg (by rw [hpm]; exact fun z => gn_m1 (by omega) z.symm), if_neg (by simp)] at q
      rw [e, nI_add]
      exact congrArg nI (by omega)
/-- the extent of a first block -/
theorem INV_at {G s : Nat} {ec : Int32} {fm oa ow od : Nat → Int32} (h : INV G ec fm oa ow od) (hs : s < 32 * G) (e : ow s = nI s) : ∃ k, k < 6 ∧ od s = nI k ∧ oa s = nI k ∧ s % 2 ^ k = 0 ∧ ∀ c, c < 32 * G → (c / 2 ^ k = s / 2 ^ k ↔ ow c = nI s) := h.2.2.2.2.1 s hs e
theorem INV_rel {G s : Nat} {ec r r' : Int32} {fm oa ow od : Nat → Int32} {u : Int32 × Int32 × (Nat → Int32) × (Nat → Int32)} {u' : (Nat → Int32) × (Nat → Int32)} (h : INV G ec fm oa ow od) (hs : s < 32 * G) (e : ow s = nI s) (hx : ax_rel fm oa ec s r u) (hm : am_rel ow od s r' u') : r = r' ∧ INV G u.1 u.2.2.1 u.2.2.2 u'.1 u'.2 := by
  obtain ⟨k, hk, hod, hoa, hal, hcov⟩ := INV_at h hs e
  obtain ⟨hG0, hG, hok, hext⟩ := h
  obtain ⟨k1, hk1, e1, rfl, J, fm', hgj, hgb, fd', rfl⟩ := hx
  obtain ⟨k2, hk2, e2, rfl, rfl⟩ := hm
  have q1 : k1 = k := nI_inj (by omega) (by omega) (e1.symm.trans hoa)
  have q2 : k2 = k := nI_inj (by omega) (by omega) (e2.symm.trans hod)
  subst q1
  subst q2
  have hb32 : s % 32 < 32 := by omega
  have esf : 32 * (s / 32) + s % 32 = s := Nat.div_add_mod s 32
  have hgs : s / 32 < G := by omega
  have half : s % 32 % 2 ^ k2 = 0 := by rw [← mod32 (g := s / 32) hk, esf]; exact hal
  have hft := fit32 hk hb32 half
  have hcov2 : ∀ c, c < 32 → (c / 2 ^ k2 = s % 32 / 2 ^ k2 ↔ ow (32 * (s / 32) + c) = nI s) := by
    intro c hc
    rw [← hcov (32 * (s / 32) + c) (by omega), ← div32 (g := s / 32) hk, esf]
  refine ⟨rfl, hG0, hG, ?_, ?_⟩
  · intro q hq
    show okM fm' q (fz (flF ow s (2 ^ k2) (-1)) q)
    by_cases eq : q = s / 32
    · subst eq
      refine okM_cong (GB_ok (hok _ hq) (fz_32 ow _) (by omega) hb32 hk ?_ hgj hgb) (fun c => ?_)
      · intro c hc hfz
        have h1 := (hcov2 c hfz.1).mp hc
        rw [hfz.2] at h1
        exact gn_m1 (by omega) h1.symm
      · rw [run_in half]
        unfold fz
        by_cases z : s % 32 ≤ c ∧ c < s % 32 + 2 ^ k2
        · rw [flF_in (show s ≤ 32 * (s / 32) + c ∧ 32 * (s / 32) + c < s + 2 ^ k2 by omega)]
          exact ⟨fun _ => ⟨by omega, rfl⟩, fun _ => Or.inr z⟩
        · rw [flF_out (show ¬ (s ≤ 32 * (s / 32) + c ∧ 32 * (s / 32) + c < s + 2 ^ k2) by omega)]
          exact ⟨fun y => y.elim id (fun y => absurd y z), fun y => Or.inl y⟩
    · refine okM_cong (okM_fm (hok q hq) (fun j i hj hi => ?_)) (fun c => ?_)
      · rw [hgb q j i (by omega) hj hi, if_neg (fun z => eq z.1), if_neg (fun z => eq z.1)]
      · unfold fz
        constructor
        · rintro ⟨y1, y2⟩
          exact ⟨y1, by rw [flF_out (by omega)]; exact y2⟩
        · rintro ⟨y1, y2⟩
          rw [flF_out (by omega)] at y2
          exact ⟨y1, y2⟩
  · refine EXT_upd hG hext hs none ?_ ?_ ?_ ?_ ?_ ?_ ?_ ?_
    · rintro k e
      cases e
    · rintro c hc ⟨k, e, q⟩
      cases e
    · intro c hc _ q
      exact flF_in ((run_in hal).mp ((hcov c hc).mpr q))
    · intro c hc _ q
      exact flF_out (fun z => q ((hcov c hc).mp ((run_in hal).mpr z)))
    · intro c hc q
      exact ⟨pk_un q, rfl⟩
    · rintro k e
      cases e
    · intro _
      exact pk_us
    · intro N eN N' q
      rw [if_pos e, if_pos rfl] at q
      show ec - nI 1 = nI N'
      rw [eN, pk_sub (by omega)]
      exact congrArg nI (by omega)
theorem even_up {k s : Nat} (hk : k < 6) (h : s % 2 ^ k = 0) : s % 2 ^ (k + 1) = 0 ↔ s / 2 ^ k % 2 = 0 := by
  rcases (show k = 0 ∨ k = 1 ∨ k = 2 ∨ k = 3 ∨ k = 4 ∨ k = 5 by omega) with rfl | rfl | rfl | rfl | rfl | rfl <;> simp only [Nat.reducePow, Nat.reduceAdd] at h ⊢ <;> omega
theorem half_mod {k f : Nat} (h : f % 2 ^ k = 0) : (f + 2 ^ k) % 2 ^ k = 0 := by rw [Nat.add_mod_right]; exact h
theorem INV_grow {G s : Nat} {ec r r' : Int32} {fm oa ow od : Nat → Int32} {u : Int32 × Int32 × (Nat → Int32) × (Nat → Int32)} {u' : (Nat → Int32) × (Nat → Int32)} (h : INV G ec fm oa ow od) (hs : s < 32 * G) (e : ow s = nI s) (hx : ax_grow fm oa ec s r u) (hm : am_grow ow od s r' u') : r = r' ∧ INV G u.1 u.2.2.1 u.2.2.2 u'.1 u'.2 := by
  have hI := h
  obtain ⟨k, hk, hod, hoa, hal, hcov⟩ := INV_at h hs e
  obtain ⟨hG0, hG, hok, hext⟩ := h
  obtain ⟨k1, hk1, e1, hx⟩ := hx
  obtain ⟨k2, hk2, e2, hm⟩ := hm
  have q1 : k1 = k := nI_inj (by omega) (by omega) (e1.symm.trans hoa)
  have q2 : k2 = k := nI_inj (by omega) (by omega) (e2.symm.trans hod)
  subst q1
  subst q2
  have hb32 : s % 32 < 32 := by omega
  have esf : 32 * (s / 32) + s % 32 = s := Nat.div_add_mod s 32
  have hgs : s / 32 < G := by omega
  have halfm : s % 32 % 2 ^ k2 = 0 := by rw [← mod32 (g := s / 32) hk, esf]; exact hal
  have hev := even_up hk hal
  have hpw : 2 ^ (k2 + 1) = 2 ^ k2 + 2 ^ k2 := by rw [Nat.pow_succ]; omega
  -- the guard, here and there
  have hfree : k2 < 5 → s / 2 ^ k2 % 2 = 0 → (FR fm (s / 32) k2 (s % 32 + 2 ^ k2) ↔ FE ow (s + 2 ^ k2) (2 ^ k2)) := by
    intro h5 hz
    have hh := gp_half h5 hal hz
    rw [FR_iff (hok _ hgs) (fz_32 ow _) hh hk]
    have h1 := RN_iff (ow := ow) (g := s / 32) hh hk
    rw [← Nat.add_assoc, esf] at h1
    constructor
    · intro q
      exact (h1.mpr ⟨half_mod halfm, q⟩).2
    · intro q
      exact (h1.mp ⟨half_mod hal, q⟩).2
  rcases hx with ⟨hno, rfl, fd', rfl⟩ | ⟨h5, hz, rfl, J, fm', hJ, hkJ, hF, hcv, fd', rfl⟩ <;> rcases hm with ⟨hno2, rfl, rfl⟩ | ⟨h52, hz2, hfe, rfl, rfl⟩
  · exact ⟨rfl, hI⟩
  · exfalso
    rcases hno with z | z | z
    · omega
    · exact z (hev.mp hz2)
    · exact z ((hfree h52 (hev.mp hz2)).mpr hfe)
  · exfalso
    rcases hno2 with z | z | z
    · omega
    · exact z (hev.mpr hz)
    · exact z ((hfree h5 hz).mp ⟨J, hJ, hkJ, hF⟩)
  · have hh := gp_half h5 hal hz
    have hcov2 : ∀ c, c < 32 → (c / 2 ^ k2 = s % 32 / 2 ^ k2 ↔ ow (32 * (s / 32) + c) = nI s) := by
      intro c hc
      rw [← hcov (32 * (s / 32) + c) (by omega), ← div32 (g := s / 32) hk, esf]
    have hft := fit32 hk hh (half_mod halfm)
    refine ⟨rfl, hG0, hG, ?_, ?_⟩
    · intro q hq
      show okM fm' q (fz (flF ow s (2 ^ (k2 + 1)) (nI s)) q)
      by_cases eq : q = s / 32
      · subst eq
        refine okM_cong (CV_ok (hok _ hq) (by omega) hh hJ hkJ hF hcv) (fun c => ?_)
        rw [run_in (half_mod halfm)]
        unfold fz
        by_cases z : s % 32 ≤ c ∧ c < s % 32 + 2 ^ (k2 + 1)
        · rw [flF_in (show s ≤ 32 * (s / 32) + c ∧ 32 * (s / 32) + c < s + 2 ^ (k2 + 1) by omega)]
          constructor
          · rintro ⟨⟨y1, y2⟩, y3⟩
            have h1 := (hcov2 c y1).mp ((run_in halfm).mpr ⟨z.1, by omega⟩)
            rw [y2] at h1
            exact absurd h1.symm (gn_m1 (by omega))
          · rintro ⟨y1, y2⟩
            exact absurd y2 (gn_m1 (by omega))
        · rw [flF_out (show ¬ (s ≤ 32 * (s / 32) + c ∧ 32 * (s / 32) + c < s + 2 ^ (k2 + 1)) by omega)]
          exact ⟨fun y => y.1, fun y => ⟨y, by omega⟩⟩
      · refine okM_cong (okM_fm (hok q hq) (fun j i hj hi => ?_)) (fun c => ?_)
        · rw [hcv q j i (by omega) hj hi, if_neg (fun z => eq z.1), if_neg (fun z => eq z.1)]
        · unfold fz
          constructor
          · rintro ⟨y1, y2⟩
            exact ⟨y1, by rw [flF_out (by omega)]; exact y2⟩
          · rintro ⟨y1, y2⟩
            rw [flF_out (by omega)] at y2
            exact ⟨y1, y2⟩
    · refine EXT_upd hG hext hs (some (k2 + 1)) ?_ ?_ ?_ ?_ ?_ ?_ ?_ ?_
      · rintro k e3
        cases e3
        refine ⟨by omega, hz2, fun c hc q => ?_⟩
        have h1 := (run_in hz2).mp q
        rcases Nat.lt_or_ge c (s + 2 ^ k2) with y | y
        · exact Or.inr ((hcov c hc).mp ((run_in hal).mpr ⟨h1.1, y⟩))
        · exact Or.inl (hfe c y (by omega))
      · rintro c hc ⟨k, e3, q⟩
        cases e3
        exact flF_in ((run_in hz2).mp q)
      · intro c hc q y
        exact absurd ⟨k2 + 1, rfl, dd_le (Nat.le_succ k2) ((hcov c hc).mpr y)⟩ q
      · intro c hc q _
        exact flF_out (fun z => q ⟨k2 + 1, rfl, (run_in hz2).mpr z⟩)
      · intro c hc q
        exact ⟨pk_un q, pk_un q⟩
      · rintro k e3
        cases e3
        exact ⟨pk_us, pk_us⟩
      · intro e3
        cases e3
      · intro N eN N' q
        rw [if_pos e, if_neg (by simp)] at q
        show ec = nI N'
        rw [eN]
        exact congrArg nI (by omega)
theorem INV_halve {G s : Nat} {ec r r' : Int32} {fm oa ow od : Nat → Int32} {u : Int32 × Int32 × (Nat → Int32) × (Nat → Int32)} {u' : (Nat → Int32) × (Nat → Int32)} (h : INV G ec fm oa ow od) (hs : s < 32 * G) (e : ow s = nI s) (hx : ax_halve fm oa ec s r u) (hm : am_halve ow od s r' u') : r = r' ∧ INV G u.1 u.2.2.1 u.2.2.2 u'.1 u'.2 := by
  have hI := h
  obtain ⟨k, hk, hod, hoa, hal, hcov⟩ := INV_at h hs e
  obtain ⟨hG0, hG, hok, hext⟩ := h
  obtain ⟨k1, hk1, e1, hx⟩ := hx
  obtain ⟨k2, hk2, e2, hm⟩ := hm
  have q1 : k1 = k := nI_inj (by omega) (by omega) (e1.symm.trans hoa)
  have q2 : k2 = k := nI_inj (by omega) (by omega) (e2.symm.trans hod)
  subst q1
  subst q2
  rcases hx with ⟨z1, rfl, fd', rfl⟩ | ⟨t, z1, rfl, J, fm', hgj, hgb, fd', rfl⟩ <;> rcases hm with ⟨z2, rfl, rfl⟩ | ⟨t2, z2, rfl, rfl⟩
  · exact ⟨rfl, hI⟩
  · omega
  · omega
  · have et : t2 = t := by omega
    subst et
    subst z1
    have hb32 : s % 32 < 32 := by omega
    have esf : 32 * (s / 32) + s % 32 = s := Nat.div_add_mod s 32
    have hgs : s / 32 < G := by omega
    have hpw : 2 ^ (t2 + 1) = 2 ^ t2 + 2 ^ t2 := by rw [Nat.pow_succ]; omega
    have hh := gp_half2 hk hal
    have hal2 : s % 2 ^ t2 = 0 := by
      have h1 := Nat.mod_mod_of_dvd s (show 2 ^ t2 ∣ 2 ^ (t2 + 1) from Nat.pow_dvd_pow 2 (Nat.le_succ t2))
      rw [hal] at h1
      rw [← h1]
      exact Nat.zero_mod _
    have halfm1 : s % 32 % 2 ^ (t2 + 1) = 0 := by rw [← mod32 (g := s / 32) hk, esf]; exact hal
    have halfm : s % 32 % 2 ^ t2 = 0 := by rw [← mod32 (g := s / 32) (by omega), esf]; exact hal2
    have hft := fit32 hk hb32 halfm1
    have hcov2 : ∀ c, c < 32 → (c / 2 ^ (t2 + 1) = s % 32 / 2 ^ (t2 + 1) ↔ ow (32 * (s / 32) + c) = nI s) := by
      intro c hc
      rw [← hcov (32 * (s / 32) + c) (by omega), ← div32 (g := s / 32) hk, esf]
    refine ⟨rfl, hG0, hG, ?_, ?_⟩
    · intro q hq
      show okM fm' q (fz (flF (flF ow s (2 ^ (t2 + 1)) (-1)) s (2 ^ t2) (nI s)) q)
      by_cases eq : q = s / 32
      · subst eq
        refine okM_cong (GB_ok (hok _ hq) (fz_32 ow _) (by omega) hh (by omega) ?_ hgj hgb) (fun c => ?_)
        · intro c hc hfz
          have h0 := (run_in (half_mod halfm)).mp hc
          have h1 := (hcov2 c hfz.1).mp ((run_in halfm1).mpr ⟨by omega, by omega⟩)
          rw [hfz.2] at h1
          exact gn_m1 (by omega) h1.symm
        · rw [run_in (half_mod halfm)]
          unfold fz
          by_cases z : s % 32 ≤ c ∧ c < s % 32 + 2 ^ t2
          · rw [flF_in (show s ≤ 32 * (s / 32) + c ∧ 32 * (s / 32) + c < s + 2 ^ t2 by omega)]
            constructor
            · rintro (⟨y1, y2⟩ | y)
              · have h1 := (hcov2 c y1).mp ((run_in halfm1).mpr ⟨z.1, by omega⟩)
                rw [y2] at h1
                exact absurd h1.symm (gn_m1 (by omega))
              · omega
            · rintro ⟨y1, y2⟩
              exact absurd y2 (gn_m1 (by omega))
          · rw [flF_out (show ¬ (s ≤ 32 * (s / 32) + c ∧ 32 * (s / 32) + c < s + 2 ^ t2) by omega)]
            by_cases z2 : s % 32 ≤ c ∧ c < s % 32 + 2 ^ (t2 + 1)
            · rw [flF_in (show s ≤ 32 * (s / 32) + c ∧ 32 * (s / 32) + c < s + 2 ^ (t2 + 1) by omega)]
              exact ⟨fun _ => ⟨by omega, rfl⟩, fun _ => Or.inr (by omega)⟩
            · rw [flF_out (show ¬ (s ≤ 32 * (s / 32) + c ∧ 32 * (s / 32) + c < s + 2 ^ (t2 + 1)) by omega)]
              exact ⟨fun y => y.elim id (fun y => by omega), fun y => Or.inl y⟩
      · refine okM_cong (okM_fm (hok q hq) (fun j i hj hi => ?_)) (fun c => ?_)
        · rw [hgb q j i (by omega) hj hi, if_neg (fun z => eq z.1), if_neg (fun z => eq z.1)]
        · unfold fz
          constructor
          · rintro ⟨y1, y2⟩
            exact ⟨y1, by rw [flF_out (by omega), flF_out (by omega)]; exact y2⟩
          · rintro ⟨y1, y2⟩
            rw [flF_out (by omega), flF_out (by omega)] at y2
            exact ⟨y1, y2⟩
    · refine EXT_upd hG hext hs (some t2) ?_ ?_ ?_ ?_ ?_ ?_ ?_ ?_
      · rintro k e3
        cases e3
        exact ⟨by omega, hal2, fun c hc q => Or.inr ((hcov c hc).mp (dd_le (Nat.le_succ t2) q))⟩
      · rintro c hc ⟨k, e3, q⟩
        cases e3
        exact flF_in ((run_in hal2).mp q)
      · intro c hc q y
        show flF (flF ow s (2 ^ (t2 + 1)) (-1)) s (2 ^ t2) (nI s) c = -1
        rw [flF_out (fun z => q ⟨t2, rfl, (run_in hal2).mpr z⟩)]
        exact flF_in ((run_in hal).mp ((hcov c hc).mpr y))
      · intro c hc q y
        show flF (flF ow s (2 ^ (t2 + 1)) (-1)) s (2 ^ t2) (nI s) c = ow c
        rw [flF_out (fun z => q ⟨t2, rfl, (run_in hal2).mpr z⟩)]
        exact flF_out (fun z => y ((hcov c hc).mp ((run_in hal).mpr z)))
      · intro c hc q
        exact ⟨pk_un q, pk_un q⟩
      · rintro k e3
        cases e3
        exact ⟨pk_us, pk_us⟩
      · intro e3
        cases e3
      · intro N eN N' q
        rw [if_pos e, if_neg (by simp)] at q
        show ec = nI N'
        rw [eN]
        exact congrArg nI (by omega)
end
section
/-! a call here, the same call there: the answers are one, the tie is kept -/
theorem un2 {N M a b a' b' : Nat} {x y : Int32} (hN : N ≤ 2 ^ 31) (hM : M ≤ 2 ^ 31) (ha : a < N) (ha' : a' < N) (hb : b < M) (hb' : b' < M) (e1 : x = nI a) (e2 : x = nI a') (e3 : y = nI b) (e4 : y = nI b') : a = a' ∧ b = b' :=
  ⟨nI_inj (by omega) (by omega) (e1.symm.trans e2), nI_inj (by omega) (by omega) (e3.symm.trans e4)⟩
theorem un1 {N a a' : Nat} {x : Int32} (hN : N ≤ 2 ^ 31) (ha : a < N) (ha' : a' < N) (e1 : x = nI a) (e2 : x = nI a') : a = a' := nI_inj (by omega) (by omega) (e1.symm.trans e2)
section OPS
variable {G : Nat} {ec x y r r' : Int32} {fm oa ow od : Nat → Int32} {u : Int32 × Int32 × (Nat → Int32) × (Nat → Int32)} {u' : (Nat → Int32) × (Nat → Int32)}
theorem op_same (h : INV G ec fm oa ow od) (hu : ∃ fd', u = (ec, fd', fm, oa)) (hu' : u' = (ow, od)) : INV G u.1 u.2.2.1 u.2.2.2 u'.1 u'.2 := by
  obtain ⟨fd', rfl⟩ := hu
  subst hu'
  exact h
theorem op_allo (h : INV G ec fm oa ow od) (hx : (¬ (okN 6 x ∧ okN (32 * G) y) ∧ r = -1 ∧ ∃ fd', u = (ec, fd', fm, oa)) ∨ (∃ o b, o < 6 ∧ b < 32 * G ∧ x = nI o ∧ y = nI b ∧ ax_allo fm oa ec G o b r u)) (hm : (¬ (okN 6 x ∧ okN (32 * G) y) ∧ r' = -1 ∧ u' = (ow, od)) ∨ (∃ o b, o < 6 ∧ b < 32 * G ∧ x = nI o ∧ y = nI b ∧ am_allo ow od G o b r' u')) : r = r' ∧ INV G u.1 u.2.2.1 u.2.2.2 u'.1 u'.2 := by
  have hG := h.2.1
  rcases hx with ⟨hn, rfl, hu⟩ | ⟨o, b, ho, hb, e1, e2, hx⟩ <;> rcases hm with ⟨hn2, rfl, hu2⟩ | ⟨o2, b2, ho2, hb2, e3, e4, hm⟩
  · exact ⟨rfl, op_same h hu hu2⟩
  · exact absurd ⟨⟨o2, ho2, e3⟩, ⟨b2, hb2, e4⟩⟩ hn
  · exact absurd ⟨⟨o, ho, e1⟩, ⟨b, hb, e2⟩⟩ hn2
  · obtain ⟨rfl, rfl⟩ := un2 (by decide) (by omega) ho ho2 hb hb2 e1 e3 e2 e4
    rcases allo_match h.1 h.2.2.1 ho hb hx hm with ⟨g, f, hg, hf, hrn, hmk, hmm⟩ | ⟨rfl, rfl, hu, hu2⟩
    · exact INV_make h hg hf ho hrn hmk hmm
    · exact ⟨rfl, op_same h hu hu2⟩
theorem op_claim (h : INV G ec fm oa ow od) (hx : (¬ (okN 6 x ∧ okN (32 * G) y) ∧ r = -1 ∧ ∃ fd', u = (ec, fd', fm, oa)) ∨ (∃ o b, o < 6 ∧ b < 32 * G ∧ x = nI o ∧ y = nI b ∧ ax_claim fm oa ec o b r u)) (hm : (¬ (okN 6 x ∧ okN (32 * G) y) ∧ r' = -1 ∧ u' = (ow, od)) ∨ (∃ o b, o < 6 ∧ b < 32 * G ∧ x = nI o ∧ y = nI b ∧ am_claim ow od o b r' u')) : r = r' ∧ INV G u.1 u.2.2.1 u.2.2.2 u'.1 u'.2 := by
  have hG := h.2.1
  rcases hx with ⟨hn, rfl, hu⟩ | ⟨o, b, ho, hb, e1, e2, hx⟩ <;> rcases hm with ⟨hn2, rfl, hu2⟩ | ⟨o2, b2, ho2, hb2, e3, e4, hm⟩
  · exact ⟨rfl, op_same h hu hu2⟩
  · exact absurd ⟨⟨o2, ho2, e3⟩, ⟨b2, hb2, e4⟩⟩ hn
  · exact absurd ⟨⟨o, ho, e1⟩, ⟨b, hb, e2⟩⟩ hn2
  · obtain ⟨rfl, rfl⟩ := un2 (by decide) (by omega) ho ho2 hb hb2 e1 e3 e2 e4
    have eb : 32 * (b / 32) + b % 32 = b := Nat.div_add_mod b 32
    have hg : b / 32 < G := by omega
    have hf : b % 32 < 32 := by omega
    have hfr : b % 2 ^ o = 0 → (FR fm (b / 32) o (b % 32) ↔ FE ow b (2 ^ o)) := by
      intro h0
      rw [FR_iff (h.2.2.1 _ hg) (fz_32 ow _) hf ho]
      have h1 := RN_iff (ow := ow) (g := b / 32) hf ho
      rw [eb] at h1
      have h2 : b % 32 % 2 ^ o = 0 := by rw [← mod32 (g := b / 32) ho, eb]; exact h0
      exact ⟨fun q => (h1.mpr ⟨h2, q⟩).2, fun q => (h1.mp ⟨h0, q⟩).2⟩
    rcases hx with ⟨c1, rfl, hu⟩ | ⟨c1, c2, rfl, hu⟩ | ⟨c1, c2, hmk⟩ <;> rcases hm with ⟨d1, rfl, hu2⟩ | ⟨d1, d2, rfl, hu2⟩ | ⟨d1, d2, hmm⟩
    · exact ⟨rfl, op_same h hu hu2⟩
    · exact absurd d1 c1
    · exact absurd d1 c1
    · exact absurd c1 d1
    · exact ⟨rfl, op_same h hu hu2⟩
    · exact absurd ((hfr c1).mpr d2) c2
    · exact absurd c1 d1
    · exact absurd ((hfr c1).mp c2) d2
    · have hmm2 : mkM ow od o (32 * (b / 32) + b % 32) r' u' := by rw [eb]; exact hmm
      exact INV_make h hg hf ho (by rw [eb]; exact ⟨d1, d2⟩) hmk hmm2
theorem op_ext1 {PX PM : Nat → Prop} (h : INV G ec fm oa ow od) (step : ∀ s, s < 32 * G → ow s = nI s → PX s → PM s → r = r' ∧ INV G u.1 u.2.2.1 u.2.2.2 u'.1 u'.2) (hx : (¬ okE G oa x ∧ r = -1 ∧ ∃ fd', u = (ec, fd', fm, oa)) ∨ (∃ b, b < 32 * G ∧ x = nI b ∧ ¬ oa b < 0 ∧ PX b)) (hm : (¬ okF G ow x ∧ r' = -1 ∧ u' = (ow, od)) ∨ (∃ b, b < 32 * G ∧ x = nI b ∧ ow b = nI b ∧ PM b)) : r = r' ∧ INV G u.1 u.2.2.1 u.2.2.2 u'.1 u'.2 := by
  have hG := h.2.1
  rcases hx with ⟨hn, rfl, hu⟩ | ⟨b, hb, e1, c1, hx⟩ <;> rcases hm with ⟨hn2, rfl, hu2⟩ | ⟨b2, hb2, e2, c2, hm⟩
  · exact ⟨rfl, op_same h hu hu2⟩
  · exact absurd ((INV_ok h).mpr ⟨b2, hb2, e2, c2⟩) hn
  · exact absurd ((INV_ok h).mp ⟨b, hb, e1, c1⟩) hn2
  · have e := un1 (by omega) hb hb2 e1 e2
    subst e
    exact step b hb c2 hx hm
theorem op_xo (h : INV G ec fm oa ow od) (hx : (¬ okN (32 * G) x ∧ r = -1) ∨ (∃ b, b < 32 * G ∧ x = nI b ∧ XO oa b r)) (hm : (¬ okN (32 * G) x ∧ r' = -1) ∨ (∃ b, b < 32 * G ∧ x = nI b ∧ ((ow b = -1 ∧ r' = -2) ∨ (¬ ow b = -1 ∧ r' = ow b)))) : r = r' := by
  have hG := h.2.1
  rcases hx with ⟨hn, rfl⟩ | ⟨b, hb, e1, hx⟩ <;> rcases hm with ⟨hn2, rfl⟩ | ⟨b2, hb2, e2, hm⟩
  · rfl
  · exact absurd ⟨b2, hb2, e2⟩ hn
  · exact absurd ⟨b, hb, e1⟩ hn2
  · have e := un1 (by omega) hb hb2 e1 e2
    subst e
    have hs32 : ∀ k, b / 2 ^ k * 2 ^ k < 32 * G := fun k => gp_base k hb
    rcases hx with ⟨k, hk, rfl, hxo⟩ | ⟨rfl, hno⟩
    · have hown : ow (b / 2 ^ k * 2 ^ k) = nI (b / 2 ^ k * 2 ^ k) := by
        apply Classical.byContradiction
        intro q
        rw [h.2.2.2.2.2.1 _ (hs32 k) q] at hxo
        exact gn_m1 (by omega) hxo.symm
      obtain ⟨k2, h1, h2, h3, h4, h5⟩ := INV_at h (hs32 k) hown
      have ek : k2 = k := nI_inj (by omega) (by omega) (h3.symm.trans hxo)
      subst ek
      have hob : ow b = nI (b / 2 ^ k2 * 2 ^ k2) := (h5 b hb).mp (by rw [ddx])
      rcases hm with ⟨c, -⟩ | ⟨c, rfl⟩
      · rw [hob] at c
        exact absurd c (gn_m1 (by have := hs32 k2; omega))
      · exact hob.symm
    · rcases hm with ⟨c, rfl⟩ | ⟨c, rfl⟩
      · rfl
      · exfalso
        rcases h.2.2.2.1 b hb with z | ⟨s, hs, z1, z2⟩
        · exact c z
        · obtain ⟨k, h1, h2, h3, h4, h5⟩ := INV_at h hs z2
          have hd := (h5 b hb).mpr z1
          have es : b / 2 ^ k * 2 ^ k = s := by rw [hd]; exact Nat.div_mul_cancel (Nat.dvd_of_mod_eq_zero h4)
          exact hno k h1 (by rw [es]; exact h3)
theorem op_fb (h : INV G ec fm oa ow od) (hx : (¬ okN G x ∧ r = -1) ∨ (∃ g, g < G ∧ x = nI g ∧ r = nI (fr2 fm g 0 6))) (hm : (¬ okN G x ∧ r' = -1) ∨ (∃ g, g < G ∧ x = nI g ∧ r' = nI (fb_ct (fun t => decide (ow (32 * g + t) = -1)) 32))) : r = r' := by
  have hG := h.2.1
  rcases hx with ⟨hn, rfl⟩ | ⟨b, hb, e1, hx⟩ <;> rcases hm with ⟨hn2, rfl⟩ | ⟨b2, hb2, e2, hm⟩
  · rfl
  · exact absurd ⟨b2, hb2, e2⟩ hn
  · exact absurd ⟨b, hb, e1⟩ hn2
  · have e := un1 (by omega) hb hb2 e1 e2
    subst e
    rw [hx, hm, blocks_group (h.2.2.1 b hb)]
theorem op_lf (h : INV G ec fm oa ow od) (hx : (¬ okN G x ∧ r = -1) ∨ (∃ g, g < G ∧ x = nI g ∧ XL fm g r)) (hm : (¬ okN G x ∧ r' = -1) ∨ (∃ g, g < G ∧ x = nI g ∧ XLm ow g r')) : r = r' := by
  have hG := h.2.1
  rcases hx with ⟨hn, rfl⟩ | ⟨b, hb, e1, hx⟩ <;> rcases hm with ⟨hn2, rfl⟩ | ⟨b2, hb2, e2, hm⟩
  · rfl
  · exact absurd ⟨b2, hb2, e2⟩ hn
  · exact absurd ⟨b, hb, e1⟩ hn2
  · have e := un1 (by omega) hb hb2 e1 e2
    subst e
    exact large_match (h.2.2.1 b hb) hx hm
theorem op_fr (h : INV G ec fm oa ow od) (hx : (¬ okN 6 x ∧ r = -1) ∨ (∃ o, o < 6 ∧ x = nI o ∧ r = nI (fr3 fm o G))) (hm : (¬ okN 6 x ∧ r' = -1) ∨ (∃ o, o < 6 ∧ x = nI o ∧ r' = nI (fb_ct (rnB ow o) (32 * G)))) : r = r' := by
  rcases hx with ⟨hn, rfl⟩ | ⟨b, hb, e1, hx⟩ <;> rcases hm with ⟨hn2, rfl⟩ | ⟨b2, hb2, e2, hm⟩
  · rfl
  · exact absurd ⟨b2, hb2, e2⟩ hn
  · exact absurd ⟨b, hb, e1⟩ hn2
  · have e := un1 (by decide) hb hb2 e1 e2
    subst e
    rw [hx, hm, runs_all hb G h.2.2.1]
theorem op_ex (h : INV G ec fm oa ow od) (hx : r = ec) (hm : r' = nI (fb_ct (fun b => decide (ow b = nI b)) (32 * G))) : r = r' := by
  rw [hx, hm]
  exact h.2.2.2.2.2.2
end OPS
/-! the start -/
theorem fmI_5 : ∀ (G g : Nat), g < G → fmI G (6 * g + 5) = nI 1
  | 0, g, h => absurd h (Nat.not_lt_zero g)
  | G + 1, g, h => by
    show upd (fmI G) (6 * G + 5) (nI 1) (6 * g + 5) = nI 1
    by_cases e : g = G
    · subst e
      exact pk_us
    · rw [pk_un (by omega)]
      exact fmI_5 G g (by omega)
theorem fmI_lo : ∀ (G g j : Nat), j < 5 → fmI G (6 * g + j) = 0
  | 0, _, _, _ => rfl
  | G + 1, g, j, h => by
    show upd (fmI G) (6 * G + 5) (nI 1) (6 * g + j) = 0
    rw [pk_un (by omega)]
    exact fmI_lo G g j h
theorem neg1_at {b : Nat} (h : b < 128) : neg1 b = -1 := flF_in (by omega)
theorem INV_0 (x : Int32) : INV (clG x) 0 (fmI (clG x)) neg1 neg1 (fun _ => 0) := by
  have hG := clG_in x
  refine ⟨hG.1, hG.2, ?_, ?_, ?_, ?_, ?_⟩
  · intro g hg j i hj hi
    have hf : ∀ b, fz neg1 g b ↔ b < 32 := fun b => ⟨fun q => q.1, fun q => ⟨q, neg1_at (by omega)⟩⟩
    unfold Bt
    rcases Nat.lt_or_ge j 5 with z | z
    · rw [fmI_lo _ _ _ z, b_0]
      constructor
      · intro q
        cases q
      · rintro ⟨h1, h2⟩
        exfalso
        have h3 : i * 2 ^ j < 32 := (hf _).mp (h1 (i * 2 ^ j) (ddx i j))
        refine h2 (fun c hc => (hf c).mpr (run32 (o := j + 1) (b := i * 2 ^ j) (by omega) h3 ?_))
        rw [hc, ← dd2, ddx]
    · have e : j = 5 := by omega
      subst e
      rw [fmI_5 _ _ hg, gb_one i hi, decide_eq_true_iff]
      constructor
      · rintro rfl
        refine ⟨fun c hc => (hf c).mpr ?_, RF_not6 (fz_32 _ _) _⟩
        have h1 : c / 32 = 0 := hc
        omega
      · rintro ⟨h1, -⟩
        have h3 : i * 2 ^ 5 < 32 := (hf _).mp (h1 (i * 2 ^ 5) (ddx i 5))
        omega
  · intro b hb
    exact Or.inl (neg1_at (by omega))
  · intro s hs e
    rw [neg1_at (by omega)] at e
    exact absurd e.symm (gn_m1 (by omega))
  · intro s hs _
    exact neg1_at (by omega)
  · have h1 : fb_ct (fun b => decide (neg1 b = nI b)) (32 * clG x) = 0 := by
      refine fb_ct_zero.mpr (fun b hb => ?_)
      rw [neg1_at (by omega)]
      exact decide_eq_false (fun q => gn_m1 (by omega) q.symm)
    rw [h1]
    rfl
end
section
set_option maxRecDepth 100000
/-! THE CLAIM OUT OF ONE WALK OF THE LAW'S BODY. Your part is whole_start (and what it stands on); all else here is the same for every law, but numbers. -/
def R_law : String := "GroupAllocatorLaw"
def lw_P (b : Addr) (xs : List Int32) (args : Array Value) (s : State) : Prop := args = #[.ref b] ∧ s.IntsAt b xs ∧ xs.length ≤ 193 ∧ (Jvm.Cond.and given_1 narrow_1).before args s = true
def lw_Q (_ : Array Value) (s : State) (o : Outcome) (t : State) : Prop := o = .returned (some (.int 1)) ∧ Framed s o t [] 600000 7290000
def lw_Z (below : List Frame) (a : Array Value) (s : State) : State → Prop := fun t => ∃ o, t.status = .running ∧ Ended t below o ∧ lw_Q a s o t
/-- the law's own end, with 1 on the stack, nothing written that was there before, its room as the claim has it -/
theorem lw_ret {p : Program} {l : Launch} {e : Env} {s : State} {m : MethodId} {below : List Frame} {meth : Method} {c : Code} {b : Nat} (hx : p.tables.exec = Jvm.exec) (hb : c.code = code) (hr : meth.sig.returnType = ret) (hlocks : meth.locks = false) {pc : Nat} {H : Heap} {ls : Array Slot} (hdg : decode code pc = .ok (.ireturn, 1)) : W p l e room_1 s m #[Value.ref b] below meth c H [] 600000 7290000 (lw_Z below #[Value.ref b] s) (F0 m pc ls [.int 1]) := by
  intro T hT X
  obtain ⟨fs, hret, hrun, hended, hW, hframe⟩ := X.leave (v := some (.int 1)) (hlocks := hlocks) (fun h => by rw [hr] at h; cases h)
  have hmeth' : T.vm.method? m = some meth := X.method'
  refine ⟨T.setFrames fs, ?_, .returned (some (.int 1)), hrun, hended, rfl, ⟨_, rfl⟩, hW, hframe⟩
  jvm_step X.here [X.here.top, hx, hb, hdg, hmeth', hr, ret, narrow_b1]
  (try refine ⟨rfl, ?_⟩); (try refine ⟨rfl, ?_⟩)
  first | (intro acts; rw [hret _ acts rfl rfl rfl]) | rw [hret _ _ rfl rfl rfl]
  exact Steps.refl _
/-- what holds at the law's entry: the machine, the code, the tables' words (any of lw_tbl by 'hts w (by decide +kernel)'), the script of L ints xs at the cell b, what the Statement gives of the start (any of its parts by flat_of_before) -/
def lw_At (p : Program) (s : State) (m : MethodId) (meth : Method) (c : Code) (b L : Nat) (xs : Nat → Int32) : Prop :=
  p.tables.exec = Jvm.exec ∧ c.code = code ∧ meth.sig.returnType = ret ∧ c.maxLocals = 4 ∧ s.vm.findClass R_law = some m.cls ∧ (∀ w ∈ lw_tbl, w.before #[Value.ref b] s = true) ∧ va_X b L xs s s.heap ∧ b < s.heap.size ∧ meth.locks = false ∧ (Jvm.Cond.and given_1 narrow_1).before #[Value.ref b] s = true
section GS
variable {p : Program} {l : Launch} {e : Env} {R : Room} {s : State} {m : MethodId} {args : Array Value} {below : List Frame} {meth : Method} {c : Code} {H : Heap} {locs : List Loc} {cells slots : Nat} {Q : State → Prop}
variable {cc : ByteArray} {pc : Nat} {ls : Array Slot} {rest : List Value} {A : Nat → Prop} {H0 : Heap}
theorem gx_sld (hexec : p.tables.exec = Jvm.exec) (hb : c.code = cc) {b L : Nat} {xs : Nat → Int32} (hX : va_X b L xs s H0) (hbl : b < H0.size) (hbA : ¬ A b) (hS : va_S A H0 H locs) {i : Nat} (hi : i < L) (hL : L < 2 ^ 31) (hdg : decode cc pc = .ok (.iaload, 1)) (k : W p l e R s m args below meth c H locs cells slots Q (F0 m (pc + 1) ls (.int (xs i) :: rest))) : W p l e R s m args below meth c H locs cells slots Q (F0 m pc ls (.int (nI i) :: .ref b :: rest)) := by
  refine va_sld hexec hb hX hbl hbA hS (vp_in_nI hi hL) hdg ?_
  rw [nI_clamp (by omega)]
  exact k
theorem gx_slen (hexec : p.tables.exec = Jvm.exec) (hb : c.code = cc) {b L : Nat} {xs : Nat → Int32} (hX : va_X b L xs s H0) (hbl : b < H0.size) (hbA : ¬ A b) (hS : va_S A H0 H locs) (hdg : decode cc pc = .ok (.arraylength, 1)) (k : W p l e R s m args below meth c H locs cells slots Q (F0 m (pc + 1) ls (.int (nI L) :: rest))) : W p l e R s m args below meth c H locs cells slots Q (F0 m pc ls (.ref b :: rest)) := va_slen hexec hb hX hbl hbA hS hdg k
end GS
def cell0 (L : Nat) (xs : Nat → Int32) : Int32 := if 0 < L then xs 0 else 0
theorem gX_lt {b L : Nat} {xs : Nat → Int32} {s : State} {H : Heap} (h : va_X b L xs s H) : b < H.size := by
  obtain ⟨scr, h1, -⟩ := h
  exact (Array.getElem?_eq_some_iff.mp h1).1
set_option maxHeartbeats 4000000 in
set_option maxRecDepth 100000 in
theorem mX0_cell (l : Launch) (b L : Nat) (xs : Nat → Int32) (hL : L ≤ 193) : Met l yX0_cell (ws_ yX0_cell cX0_cell 2 (some .int)) ({ frames := 0, cells := 0, slots := 0, locals := 0 } : Room) (va_Pc [.ref b, .int (nI 0)] (fun U => va_X b L xs U U.heap)) (vp_Si (fun r => r = cell0 L xs)) 0 0 (fun _ => False) := by
  refine Met.ofW (cc := cX0_cell) (maxL := 2) (ret := (some .int)) (by decide) rfl ?_
  intro p e s m args below meth c s₁ B hml hv
  obtain ⟨rfl, hX⟩ := hv
  have hx := B.exec
  have hb := B.bytes
  have hr := B.returns
  have hlocks := B.notSynchronized
  have hbl := gX_lt hX
  have hS : va_S (fun _ : Nat => False) s.heap s.heap [] := va_S.rf
  have hl := lv_entry ([.ref b, .int (nI 0)]) (n := 2) (Nat.le_of_ble_eq_true rfl)
  rw [lg_entry_eq]
  generalize (lg_sl ([.ref b, .int (nI 0)]) ++ List.replicate (2 - (lg_sl ([.ref b, .int (nI 0)])).length) Slot.unset).toArray = ls at hl ⊢
  have hl : lv_has ls 2 [(0, .ref b), (1, .int (nI 0))] := hl
  refine lv_iload_n hx hb dX0_cell_0 rfl (lv_at hl 1 rfl) ?_
  refine lv_aload_n hx hb dX0_cell_1 rfl (lv_at hl 0 rfl) ?_
  refine gx_slen hx hb hX hbl (fun h => h) hS dX0_cell_2 ?_
  refine gx_icmp_ge (tgt := 12) hx hb dX0_cell_3 (by decide) (by decide) (by omega) (fun c1 => ?_) (fun c1 => ?_)
  · refine lv_iconst (v := 0) hx hb dX0_cell_12 (by decide) ?_
    exact W.iret (v := 0) hx hb hr (fun t9 ht9 hW9 => ⟨_, rfl, (if_neg (by omega)).symm, ht9⟩) (fun q h => absurd h List.not_mem_nil) dX0_cell_13
  · refine lv_aload_n hx hb dX0_cell_6 rfl (lv_at hl 0 rfl) ?_
    refine lv_iload_n hx hb dX0_cell_7 rfl (lv_at hl 1 rfl) ?_
    refine gx_sld hx hb hX hbl (fun h => h) hS c1 (by omega) dX0_cell_8 ?_
    refine lv_goto (tgt := 13) hx hb dX0_cell_9 (by decide) ?_
    exact W.iret (v := xs 0) hx hb hr (fun t9 ht9 hW9 => ⟨_, rfl, (if_pos c1).symm, ht9⟩) (fun q h => absurd h List.not_mem_nil) dX0_cell_13
abbrev gL (h hf ho : Nat) (cI cB : ClassId) (k kw ko : Nat) (cW cO : ClassId) (G : Nat) (ec fd : Int32) (fm oa ow od : Nat → Int32) : va_W := gX h hf ho cI cB G ec fd fm oa ++ gM k kw ko cW cO G ow od
abbrev tL (cI cB cW cO : ClassId) : List (ClassId × FieldType) := [(cI, .int), (cB, .byte), (cW, .int), (cO, .int)]
theorem gl_gt {i L : Nat} (hi : i < 2 ^ 30) (hL : L < 2 ^ 30) : nI L - nI 3 < nI i ↔ L < i + 3 := by
  rw [Int32.lt_iff_toInt_lt, pk_sub_toInt hL (by decide), nI_toInt (by omega)]
  omega
end
section
set_option maxHeartbeats 8000000 in
set_option maxRecDepth 100000 in
/-- the law at the head of its loop: the two stand in the tie -/
theorem law_loop {p : Program} {e : Env} {s : State} {m : MethodId} {below : List Frame} {meth : Method} {c : Code} (l : Launch) {b L : Nat} {xs : Nat → Int32} {D : va_G} {h hf ho : Nat} {cI cB : ClassId} {k kw ko : Nat} {cW cO : ClassId} {G : Nat} {ec fd : Int32} {fm oa ow od : Nat → Int32} {i0 : Nat} {H : Heap} {locs : List Loc} {ls : Array Slot} (hL : L ≤ 193) (C0 : lw_At p s m meth c b L xs) (hK : va_K D vwCl (tL cI cB cW cO) s) (hi0 : i0 ≤ L + 1) (hI : INV G ec fm oa ow od) (hP : va_P D vwCl (gL h hf ho cI cB k kw ko cW cO G ec fd fm oa ow od) H) (hD : va_D (fun q : Nat => s.heap.size ≤ q) (gL h hf ho cI cB k kw ko cW cO G ec fd fm oa ow od)) (hS : va_S (fun q : Nat => s.heap.size ≤ q) s.heap H locs) (hl : lv_has ls 4 [(3, .int (nI i0)), (2, .ref k), (1, .ref h), (0, .ref b)]) : W p l e room_1 s m #[Value.ref b] below meth c H locs 6 416 (lw_Z below #[Value.ref b] s) (F0 m 28 ls []) := by
  obtain ⟨hx, hb, hr, hml, hown, hts0, hX, hbl, hlocks, hgv⟩ := id C0
  have hA : ∀ q : Nat, s.heap.size ≤ q → (fun q : Nat => s.heap.size ≤ q) q := fun _ h => h
  have hbA : ¬ (fun q : Nat => s.heap.size ≤ q) b := Nat.not_le.mpr hbl
  have hts : ∀ w ∈ lw_all, w.before #[Value.ref b] s = true := fun w h => hts0 w (lw_all_tbl h)
  refine gx_loopM (σ := Nat × Int32 × Int32 × (Nat → Int32) × (Nat → Int32) × (Nat → Int32) × (Nat → Int32)) (fun x H locs ls => (x.1 ≤ L + 1 ∧ INV G x.2.1 x.2.2.2.1 x.2.2.2.2.1 x.2.2.2.2.2.1 x.2.2.2.2.2.2) ∧ (va_P D vwCl (gL h hf ho cI cB k kw ko cW cO G x.2.1 x.2.2.1 x.2.2.2.1 x.2.2.2.2.1 x.2.2.2.2.2.1 x.2.2.2.2.2.2) H ∧ va_D (fun q : Nat => s.heap.size ≤ q) (gL h hf ho cI cB k kw ko cW cO G x.2.1 x.2.2.1 x.2.2.2.1 x.2.2.2.2.1 x.2.2.2.2.2.1 x.2.2.2.2.2.2) ∧ va_S (fun q : Nat => s.heap.size ≤ q) s.heap H locs) ∧ lv_has ls 4 [(3, .int (nI x.1)), (2, .ref k), (1, .ref h), (0, .ref b)]) (fun x => L + 1 - x.1) (i0, ec, fd, fm, oa, ow, od) ⟨⟨hi0, hI⟩, ⟨hP, hD, hS⟩, hl⟩ ?_
  clear hI hP hD hS hl hi0
  rintro ⟨i, ec, fd, fm, oa, ow, od⟩ H locs ls ⟨⟨hi, hI⟩, ⟨hP, hD, hS⟩, hl⟩ ih
  have hi : i ≤ L + 1 := hi
  have hI : INV G ec fm oa ow od := hI
  have hl : lv_has ls 4 [(3, .int (nI i)), (2, .ref k), (1, .ref h), (0, .ref b)] := hl
  have hP : va_P D vwCl (gL h hf ho cI cB k kw ko cW cO G ec fd fm oa ow od) H := hP
  have hD : va_D (fun q : Nat => s.heap.size ≤ q) (gL h hf ho cI cB k kw ko cW cO G ec fd fm oa ow od) := hD
  refine lv_iload_n hx hb dL_law_28 rfl (lv_at hl 0 rfl) ?_
  refine lv_aload_n hx hb dL_law_29 rfl (lv_at hl 3 rfl) ?_
  refine gx_slen hx hb hX hbl hbA hS dL_law_30 ?_
  refine lv_iconst (v := (nI 3)) hx hb dL_law_31 (by decide) ?_
  refine lv_isub hx hb dL_law_32 ?_
  refine lv_icmp_gt (tgt := 342) hx hb dL_law_33 (by decide)  (fun c1 => ?_) (fun c1 => ?_)
  · refine lv_iconst (v := 1) hx hb dL_law_342 (by decide) ?_
    refine va_forget (fun q hq => hS.2.2 q hq) ?_
    refine W.widen (k := 600000) (n := 7290000) (by decide) (by decide) ?_
    exact lw_ret hx hb hr hlocks dL_law_343
  · rw [gl_gt (by omega) (by omega)] at c1
    refine lv_aload_n hx hb dL_law_36 rfl (lv_at hl 3 rfl) ?_
    refine lv_iload_n hx hb dL_law_37 rfl (lv_at hl 0 rfl) ?_
    refine gx_sld hx hb hX hbl hbA hS (by omega) (by omega) dL_law_38 ?_
    refine lv_bipush (v := (nI 15)) hx hb dL_law_39 (by decide) ?_
    refine lv_iand hx hb dL_law_41 ?_
    obtain ⟨j, hj, ej⟩ := pk_andE (xs i) (m := nI 15) 4 (by decide)
    refine gx_top (y := (nI j)) (ej) ?_
    rcases (show j = 0 ∨ j = 1 ∨ j = 2 ∨ j = 3 ∨ j = 4 ∨ j = 5 ∨ j = 6 ∨ j = 7 ∨ j = 8 ∨ j = 9 ∨ 10 ≤ j by omega) with rfl | rfl | rfl | rfl | rfl | rfl | rfl | rfl | rfl | rfl | hj10
    · refine lv_tableIn (off := 54) (tgt := 96) hx hb dL_law_42 (by decide) (by decide) (by decide) (by decide) ?_
      refine lv_aload_n hx hb dL_law_96 rfl (lv_at hl 2 rfl) ?_
      refine lv_aload_n hx hb dL_law_97 rfl (lv_at hl 3 rfl) ?_
      refine lv_iload_n hx hb dL_law_98 rfl (lv_at hl 0 rfl) ?_
      refine lv_iconst (v := (nI 1)) hx hb dL_law_99 (by decide) ?_
      refine gx_iadd (n := i + 1) hx hb dL_law_100 rfl ?_
      refine gx_sld hx hb hX hbl hbA hS (by omega) (by omega) dL_law_101 ?_
      refine lv_aload_n hx hb dL_law_102 rfl (lv_at hl 3 rfl) ?_
      refine lv_iload_n hx hb dL_law_103 rfl (lv_at hl 0 rfl) ?_
      refine lv_iconst (v := (nI 2)) hx hb dL_law_104 (by decide) ?_
      refine gx_iadd (n := i + 2) hx hb dL_law_105 rfl ?_
      refine gx_sld hx hb hX hbl hbA hS (by omega) (by omega) dL_law_106 ?_
      refine gw_cI (wr := (gM k kw ko cW cO G ow od)) (As := [.int (xs (i + 1)), .int (xs (i + 2))]) (rest := []) (ci := 0) (q0 := 0) ⟨hx, hb, hml, hown, hts⟩ (mX1_allocate l D h hf ho cI cB G ec fd fm oa _ hI.1 hI.2.1 (xs (i + 1)) (xs (i + 2))) (cwV 2 hts (lw_V q48 q49 q50 q20 q51) rfl rfl rfl (by decide +kernel) ⟨Nat.le_of_ble_eq_true rfl, Nat.le_of_ble_eq_true rfl⟩) (hK.sub (tys' := tX cI cB) [0, 1] rfl) hP hD hS hA [0, 1, 2] [3, 4, 5] rfl (by decide) rfl rfl (by decide) (by decide) rfl rfl rfl hl.1 rfl (Nat.le_of_ble_eq_true rfl) dL_law_107 ⟨Nat.le_of_ble_eq_true rfl, Nat.le_of_ble_eq_true rfl⟩ (fun r1 u1 H locs h1 hP hD hS => ?_)
      obtain ⟨ec1, fd1, fm1, oa1⟩ := u1
      have hP := hP.sub (ws' := (gL h hf ho cI cB k kw ko cW cO G ec1 fd1 fm1 oa1 ow od)) [3, 4, 5, 0, 1, 2] rfl
      have hD := hD.sub (ws' := (gL h hf ho cI cB k kw ko cW cO G ec1 fd1 fm1 oa1 ow od)) [3, 4, 5, 0, 1, 2] (by decide) rfl
      refine lv_aload_n hx hb dL_law_110 rfl (lv_at hl 1 rfl) ?_
      refine lv_aload_n hx hb dL_law_111 rfl (lv_at hl 3 rfl) ?_
      refine lv_iload_n hx hb dL_law_112 rfl (lv_at hl 0 rfl) ?_
      refine lv_iconst (v := (nI 1)) hx hb dL_law_113 (by decide) ?_
      refine gx_iadd (n := i + 1) hx hb dL_law_114 rfl ?_
      refine gx_sld hx hb hX hbl hbA hS (by omega) (by omega) dL_law_115 ?_
      refine lv_aload_n hx hb dL_law_116 rfl (lv_at hl 3 rfl) ?_
      refine lv_iload_n hx hb dL_law_117 rfl (lv_at hl 0 rfl) ?_
      refine lv_iconst (v := (nI 2)) hx hb dL_law_118 (by decide) ?_
      refine gx_iadd (n := i + 2) hx hb dL_law_119 rfl ?_
      refine gx_sld hx hb hX hbl hbA hS (by omega) (by omega) dL_law_120 ?_
      refine gw_cI (wr := (gX h hf ho cI cB G ec1 fd1 fm1 oa1)) (As := [.int (xs (i + 1)), .int (xs (i + 2))]) (rest := [.int r1]) (ci := 1) (q0 := 0) ⟨hx, hb, hml, hown, hts⟩ (mX2_allocate l D k kw ko cW cO G ow od _ hI.1 hI.2.1 (xs (i + 1)) (xs (i + 2))) (cwV 2 hts (lw_V q147 q148 q149 q21 q150) rfl rfl rfl (by decide +kernel) ⟨Nat.le_of_ble_eq_true rfl, Nat.le_of_ble_eq_true rfl⟩) (hK.sub (tys' := tM cW cO) [2, 3] rfl) hP hD hS hA [3, 4, 5] [0, 1, 2] rfl (by decide) rfl rfl (by decide) (by decide) rfl rfl rfl hl.1 rfl (Nat.le_of_ble_eq_true rfl) dL_law_121 ⟨Nat.le_of_ble_eq_true rfl, Nat.le_of_ble_eq_true rfl⟩ (fun r2 u2 H locs h2 hP hD hS => ?_)
      obtain ⟨ow1, od1⟩ := u2
      have hP : va_P D vwCl (gL h hf ho cI cB k kw ko cW cO G ec1 fd1 fm1 oa1 ow1 od1) H := hP
      have hD : va_D (fun q : Nat => s.heap.size ≤ q) (gL h hf ho cI cB k kw ko cW cO G ec1 fd1 fm1 oa1 ow1 od1) := hD
      have hop := op_allo hI h1 h2
      have er : r1 = r2 := hop.1
      have hI2 : INV G ec1 fm1 oa1 ow1 od1 := hop.2
      refine lv_icmp_eq (tgt := 336) hx hb dL_law_124 (by decide)  (fun c9 => ?_) (fun c9 => ?_)
      · refine lv_iinc (v := (nI (i + 3))) (lv' := [(3, .int (nI (i + 3))), (2, .ref k), (1, .ref h), (0, .ref b)]) hx hb dL_law_336 hl (k := 0) rfl (gn_inc3 i) (by decide) rfl (fun ls hl => ?_)
        refine lv_goto (tgt := 28) hx hb dL_law_339 (by decide) ?_
        exact ih (i + 3, ec1, fd1, fm1, oa1, ow1, od1) _ _ ls ⟨⟨by show i + 3 ≤ L + 1; omega, hI2⟩, ⟨hP, hD, hS⟩, lv_sub hl [0, 1, 2, 3] rfl⟩ (by show L + 1 - (i + 3) < L + 1 - i; omega)
      · exact absurd er c9
    · refine lv_tableIn (off := 87) (tgt := 129) hx hb dL_law_42 (by decide) (by decide) (by decide) (by decide) ?_
      refine lv_aload_n hx hb dL_law_129 rfl (lv_at hl 2 rfl) ?_
      refine lv_aload_n hx hb dL_law_130 rfl (lv_at hl 3 rfl) ?_
      refine lv_iload_n hx hb dL_law_131 rfl (lv_at hl 0 rfl) ?_
      refine lv_iconst (v := (nI 1)) hx hb dL_law_132 (by decide) ?_
      refine gx_iadd (n := i + 1) hx hb dL_law_133 rfl ?_
      refine gx_sld hx hb hX hbl hbA hS (by omega) (by omega) dL_law_134 ?_
      refine lv_aload_n hx hb dL_law_135 rfl (lv_at hl 3 rfl) ?_
      refine lv_iload_n hx hb dL_law_136 rfl (lv_at hl 0 rfl) ?_
      refine lv_iconst (v := (nI 2)) hx hb dL_law_137 (by decide) ?_
      refine gx_iadd (n := i + 2) hx hb dL_law_138 rfl ?_
      refine gx_sld hx hb hX hbl hbA hS (by omega) (by omega) dL_law_139 ?_
      refine gw_cI (wr := (gM k kw ko cW cO G ow od)) (As := [.int (xs (i + 1)), .int (xs (i + 2))]) (rest := []) (ci := 0) (q0 := 0) ⟨hx, hb, hml, hown, hts⟩ (mX1_claim l D h hf ho cI cB G ec fd fm oa _ hI.2.1 (xs (i + 1)) (xs (i + 2))) (cwV 2 hts (lw_V q76 q77 q78 q20 q79) rfl rfl rfl (by decide +kernel) ⟨Nat.le_of_ble_eq_true rfl, Nat.le_of_ble_eq_true rfl⟩) (hK.sub (tys' := tX cI cB) [0, 1] rfl) hP hD hS hA [0, 1, 2] [3, 4, 5] rfl (by decide) rfl rfl (by decide) (by decide) rfl rfl rfl hl.1 rfl (Nat.le_of_ble_eq_true rfl) dL_law_140 ⟨Nat.le_of_ble_eq_true rfl, Nat.le_of_ble_eq_true rfl⟩ (fun r1 u1 H locs h1 hP hD hS => ?_)
      obtain ⟨ec1, fd1, fm1, oa1⟩ := u1
      have hP := hP.sub (ws' := (gL h hf ho cI cB k kw ko cW cO G ec1 fd1 fm1 oa1 ow od)) [3, 4, 5, 0, 1, 2] rfl
      have hD := hD.sub (ws' := (gL h hf ho cI cB k kw ko cW cO G ec1 fd1 fm1 oa1 ow od)) [3, 4, 5, 0, 1, 2] (by decide) rfl
      refine lv_aload_n hx hb dL_law_143 rfl (lv_at hl 1 rfl) ?_
      refine lv_aload_n hx hb dL_law_144 rfl (lv_at hl 3 rfl) ?_
      refine lv_iload_n hx hb dL_law_145 rfl (lv_at hl 0 rfl) ?_
      refine lv_iconst (v := (nI 1)) hx hb dL_law_146 (by decide) ?_
      refine gx_iadd (n := i + 1) hx hb dL_law_147 rfl ?_
      refine gx_sld hx hb hX hbl hbA hS (by omega) (by omega) dL_law_148 ?_
      refine lv_aload_n hx hb dL_law_149 rfl (lv_at hl 3 rfl) ?_
      refine lv_iload_n hx hb dL_law_150 rfl (lv_at hl 0 rfl) ?_
      refine lv_iconst (v := (nI 2)) hx hb dL_law_151 (by decide) ?_
      refine gx_iadd (n := i + 2) hx hb dL_law_152 rfl ?_
      refine gx_sld hx hb hX hbl hbA hS (by omega) (by omega) dL_law_153 ?_
      refine gw_cI (wr := (gX h hf ho cI cB G ec1 fd1 fm1 oa1)) (As := [.int (xs (i + 1)), .int (xs (i + 2))]) (rest := [.int r1]) (ci := 1) (q0 := 0) ⟨hx, hb, hml, hown, hts⟩ (mX2_claim l D k kw ko cW cO G ow od _ hI.2.1 (xs (i + 1)) (xs (i + 2))) (cwV 2 hts (lw_V q179 q180 q181 q21 q182) rfl rfl rfl (by decide +kernel) ⟨Nat.le_of_ble_eq_true rfl, Nat.le_of_ble_eq_true rfl⟩) (hK.sub (tys' := tM cW cO) [2, 3] rfl) hP hD hS hA [3, 4, 5] [0, 1, 2] rfl (by decide) rfl rfl (by decide) (by decide) rfl rfl rfl hl.1 rfl (Nat.le_of_ble_eq_true rfl) dL_law_154 ⟨Nat.le_of_ble_eq_true rfl, Nat.le_of_ble_eq_true rfl⟩ (fun r2 u2 H locs h2 hP hD hS => ?_)
      obtain ⟨ow1, od1⟩ := u2
      have hP : va_P D vwCl (gL h hf ho cI cB k kw ko cW cO G ec1 fd1 fm1 oa1 ow1 od1) H := hP
      have hD : va_D (fun q : Nat => s.heap.size ≤ q) (gL h hf ho cI cB k kw ko cW cO G ec1 fd1 fm1 oa1 ow1 od1) := hD
      have hop := op_claim hI h1 h2
      have er : r1 = r2 := hop.1
      have hI2 : INV G ec1 fm1 oa1 ow1 od1 := hop.2
      refine lv_icmp_eq (tgt := 336) hx hb dL_law_157 (by decide)  (fun c9 => ?_) (fun c9 => ?_)
      · refine lv_iinc (v := (nI (i + 3))) (lv' := [(3, .int (nI (i + 3))), (2, .ref k), (1, .ref h), (0, .ref b)]) hx hb dL_law_336 hl (k := 0) rfl (gn_inc3 i) (by decide) rfl (fun ls hl => ?_)
        refine lv_goto (tgt := 28) hx hb dL_law_339 (by decide) ?_
        exact ih (i + 3, ec1, fd1, fm1, oa1, ow1, od1) _ _ ls ⟨⟨by show i + 3 ≤ L + 1; omega, hI2⟩, ⟨hP, hD, hS⟩, lv_sub hl [0, 1, 2, 3] rfl⟩ (by show L + 1 - (i + 3) < L + 1 - i; omega)
      · exact absurd er c9
    · refine lv_tableIn (off := 120) (tgt := 162) hx hb dL_law_42 (by decide) (by decide) (by decide) (by decide) ?_
      refine lv_aload_n hx hb dL_law_162 rfl (lv_at hl 2 rfl) ?_
      refine lv_aload_n hx hb dL_law_163 rfl (lv_at hl 3 rfl) ?_
      refine lv_iload_n hx hb dL_law_164 rfl (lv_at hl 0 rfl) ?_
      refine lv_iconst (v := (nI 1)) hx hb dL_law_165 (by decide) ?_
      refine gx_iadd (n := i + 1) hx hb dL_law_166 rfl ?_
      refine gx_sld hx hb hX hbl hbA hS (by omega) (by omega) dL_law_167 ?_
      refine gw_cI (wr := (gM k kw ko cW cO G ow od)) (As := [.int (xs (i + 1))]) (rest := []) (ci := 0) (q0 := 0) ⟨hx, hb, hml, hown, hts⟩ (mX1_release l D h hf ho cI cB G ec fd fm oa _ hI.2.1 (INV_wfO hI) (xs (i + 1))) (cwV 1 hts (lw_V q84 q85 q86 q20 q87) rfl rfl rfl (by decide +kernel) ⟨Nat.le_of_ble_eq_true rfl, Nat.le_of_ble_eq_true rfl⟩) (hK.sub (tys' := tX cI cB) [0, 1] rfl) hP hD hS hA [0, 1, 2] [3, 4, 5] rfl (by decide) rfl rfl (by decide) (by decide) rfl rfl rfl hl.1 rfl (Nat.le_of_ble_eq_true rfl) dL_law_168 ⟨Nat.le_of_ble_eq_true rfl, Nat.le_of_ble_eq_true rfl⟩ (fun r1 u1 H locs h1 hP hD hS => ?_)
      obtain ⟨ec1, fd1, fm1, oa1⟩ := u1
      have hP := hP.sub (ws' := (gL h hf ho cI cB k kw ko cW cO G ec1 fd1 fm1 oa1 ow od)) [3, 4, 5, 0, 1, 2] rfl
      have hD := hD.sub (ws' := (gL h hf ho cI cB k kw ko cW cO G ec1 fd1 fm1 oa1 ow od)) [3, 4, 5, 0, 1, 2] (by decide) rfl
      refine lv_aload_n hx hb dL_law_171 rfl (lv_at hl 1 rfl) ?_
      refine lv_aload_n hx hb dL_law_172 rfl (lv_at hl 3 rfl) ?_
      refine lv_iload_n hx hb dL_law_173 rfl (lv_at hl 0 rfl) ?_
      refine lv_iconst (v := (nI 1)) hx hb dL_law_174 (by decide) ?_
      refine gx_iadd (n := i + 1) hx hb dL_law_175 rfl ?_
      refine gx_sld hx hb hX hbl hbA hS (by omega) (by omega) dL_law_176 ?_
      refine gw_cI (wr := (gX h hf ho cI cB G ec1 fd1 fm1 oa1)) (As := [.int (xs (i + 1))]) (rest := [.int r1]) (ci := 1) (q0 := 0) ⟨hx, hb, hml, hown, hts⟩ (mX2_release l D k kw ko cW cO G ow od _ hI.2.1 (INV_wfM hI) (xs (i + 1))) (cwV 1 hts (lw_V q183 q184 q185 q21 q186) rfl rfl rfl (by decide +kernel) ⟨Nat.le_of_ble_eq_true rfl, Nat.le_of_ble_eq_true rfl⟩) (hK.sub (tys' := tM cW cO) [2, 3] rfl) hP hD hS hA [3, 4, 5] [0, 1, 2] rfl (by decide) rfl rfl (by decide) (by decide) rfl rfl rfl hl.1 rfl (Nat.le_of_ble_eq_true rfl) dL_law_177 ⟨Nat.le_of_ble_eq_true rfl, Nat.le_of_ble_eq_true rfl⟩ (fun r2 u2 H locs h2 hP hD hS => ?_)
      obtain ⟨ow1, od1⟩ := u2
      have hP : va_P D vwCl (gL h hf ho cI cB k kw ko cW cO G ec1 fd1 fm1 oa1 ow1 od1) H := hP
      have hD : va_D (fun q : Nat => s.heap.size ≤ q) (gL h hf ho cI cB k kw ko cW cO G ec1 fd1 fm1 oa1 ow1 od1) := hD
      have hop := op_ext1 hI (fun q hq e9 hx9 hm9 => INV_rel hI hq e9 hx9 hm9) h1 h2
      have er : r1 = r2 := hop.1
      have hI2 : INV G ec1 fm1 oa1 ow1 od1 := hop.2
      refine lv_icmp_eq (tgt := 336) hx hb dL_law_180 (by decide)  (fun c9 => ?_) (fun c9 => ?_)
      · refine lv_iinc (v := (nI (i + 3))) (lv' := [(3, .int (nI (i + 3))), (2, .ref k), (1, .ref h), (0, .ref b)]) hx hb dL_law_336 hl (k := 0) rfl (gn_inc3 i) (by decide) rfl (fun ls hl => ?_)
        refine lv_goto (tgt := 28) hx hb dL_law_339 (by decide) ?_
        exact ih (i + 3, ec1, fd1, fm1, oa1, ow1, od1) _ _ ls ⟨⟨by show i + 3 ≤ L + 1; omega, hI2⟩, ⟨hP, hD, hS⟩, lv_sub hl [0, 1, 2, 3] rfl⟩ (by show L + 1 - (i + 3) < L + 1 - i; omega)
      · exact absurd er c9
    · refine lv_tableIn (off := 143) (tgt := 185) hx hb dL_law_42 (by decide) (by decide) (by decide) (by decide) ?_
      refine lv_aload_n hx hb dL_law_185 rfl (lv_at hl 2 rfl) ?_
      refine lv_aload_n hx hb dL_law_186 rfl (lv_at hl 3 rfl) ?_
      refine lv_iload_n hx hb dL_law_187 rfl (lv_at hl 0 rfl) ?_
      refine lv_iconst (v := (nI 1)) hx hb dL_law_188 (by decide) ?_
      refine gx_iadd (n := i + 1) hx hb dL_law_189 rfl ?_
      refine gx_sld hx hb hX hbl hbA hS (by omega) (by omega) dL_law_190 ?_
      refine gw_cI (wr := (gM k kw ko cW cO G ow od)) (As := [.int (xs (i + 1))]) (rest := []) (ci := 0) (q0 := 0) ⟨hx, hb, hml, hown, hts⟩ (mX1_grow l D h hf ho cI cB G ec fd fm oa _ hI.2.1 (INV_wfO hI) (xs (i + 1))) (cwV 1 hts (lw_V q96 q97 q98 q20 q99) rfl rfl rfl (by decide +kernel) ⟨Nat.le_of_ble_eq_true rfl, Nat.le_of_ble_eq_true rfl⟩) (hK.sub (tys' := tX cI cB) [0, 1] rfl) hP hD hS hA [0, 1, 2] [3, 4, 5] rfl (by decide) rfl rfl (by decide) (by decide) rfl rfl rfl hl.1 rfl (Nat.le_of_ble_eq_true rfl) dL_law_191 ⟨Nat.le_of_ble_eq_true rfl, Nat.le_of_ble_eq_true rfl⟩ (fun r1 u1 H locs h1 hP hD hS => ?_)
      obtain ⟨ec1, fd1, fm1, oa1⟩ := u1
      have hP := hP.sub (ws' := (gL h hf ho cI cB k kw ko cW cO G ec1 fd1 fm1 oa1 ow od)) [3, 4, 5, 0, 1, 2] rfl
      have hD := hD.sub (ws' := (gL h hf ho cI cB k kw ko cW cO G ec1 fd1 fm1 oa1 ow od)) [3, 4, 5, 0, 1, 2] (by decide) rfl
      refine lv_aload_n hx hb dL_law_194 rfl (lv_at hl 1 rfl) ?_
      refine lv_aload_n hx hb dL_law_195 rfl (lv_at hl 3 rfl) ?_
      refine lv_iload_n hx hb dL_law_196 rfl (lv_at hl 0 rfl) ?_
      refine lv_iconst (v := (nI 1)) hx hb dL_law_197 (by decide) ?_
      refine gx_iadd (n := i + 1) hx hb dL_law_198 rfl ?_
      refine gx_sld hx hb hX hbl hbA hS (by omega) (by omega) dL_law_199 ?_
      refine gw_cI (wr := (gX h hf ho cI cB G ec1 fd1 fm1 oa1)) (As := [.int (xs (i + 1))]) (rest := [.int r1]) (ci := 1) (q0 := 0) ⟨hx, hb, hml, hown, hts⟩ (mX2_grow l D k kw ko cW cO G ow od _ hI.2.1 (INV_wfM hI) (xs (i + 1))) (cwV 1 hts (lw_V q191 q192 q193 q21 q194) rfl rfl rfl (by decide +kernel) ⟨Nat.le_of_ble_eq_true rfl, Nat.le_of_ble_eq_true rfl⟩) (hK.sub (tys' := tM cW cO) [2, 3] rfl) hP hD hS hA [3, 4, 5] [0, 1, 2] rfl (by decide) rfl rfl (by decide) (by decide) rfl rfl rfl hl.1 rfl (Nat.le_of_ble_eq_true rfl) dL_law_200 ⟨Nat.le_of_ble_eq_true rfl, Nat.le_of_ble_eq_true rfl⟩ (fun r2 u2 H locs h2 hP hD hS => ?_)
      obtain ⟨ow1, od1⟩ := u2
      have hP : va_P D vwCl (gL h hf ho cI cB k kw ko cW cO G ec1 fd1 fm1 oa1 ow1 od1) H := hP
      have hD : va_D (fun q : Nat => s.heap.size ≤ q) (gL h hf ho cI cB k kw ko cW cO G ec1 fd1 fm1 oa1 ow1 od1) := hD
      have hop := op_ext1 hI (fun q hq e9 hx9 hm9 => INV_grow hI hq e9 hx9 hm9) h1 h2
      have er : r1 = r2 := hop.1
      have hI2 : INV G ec1 fm1 oa1 ow1 od1 := hop.2
      refine lv_icmp_eq (tgt := 336) hx hb dL_law_203 (by decide)  (fun c9 => ?_) (fun c9 => ?_)
      · refine lv_iinc (v := (nI (i + 3))) (lv' := [(3, .int (nI (i + 3))), (2, .ref k), (1, .ref h), (0, .ref b)]) hx hb dL_law_336 hl (k := 0) rfl (gn_inc3 i) (by decide) rfl (fun ls hl => ?_)
        refine lv_goto (tgt := 28) hx hb dL_law_339 (by decide) ?_
        exact ih (i + 3, ec1, fd1, fm1, oa1, ow1, od1) _ _ ls ⟨⟨by show i + 3 ≤ L + 1; omega, hI2⟩, ⟨hP, hD, hS⟩, lv_sub hl [0, 1, 2, 3] rfl⟩ (by show L + 1 - (i + 3) < L + 1 - i; omega)
      · exact absurd er c9
    · refine lv_tableIn (off := 166) (tgt := 208) hx hb dL_law_42 (by decide) (by decide) (by decide) (by decide) ?_
      refine lv_aload_n hx hb dL_law_208 rfl (lv_at hl 2 rfl) ?_
      refine lv_aload_n hx hb dL_law_209 rfl (lv_at hl 3 rfl) ?_
      refine lv_iload_n hx hb dL_law_210 rfl (lv_at hl 0 rfl) ?_
      refine lv_iconst (v := (nI 1)) hx hb dL_law_211 (by decide) ?_
      refine gx_iadd (n := i + 1) hx hb dL_law_212 rfl ?_
      refine gx_sld hx hb hX hbl hbA hS (by omega) (by omega) dL_law_213 ?_
      refine gw_cI (wr := (gM k kw ko cW cO G ow od)) (As := [.int (xs (i + 1))]) (rest := []) (ci := 0) (q0 := 0) ⟨hx, hb, hml, hown, hts⟩ (mX1_halve l D h hf ho cI cB G ec fd fm oa _ hI.2.1 (INV_wfO hI) (xs (i + 1))) (cwV 1 hts (lw_V q100 q101 q102 q20 q103) rfl rfl rfl (by decide +kernel) ⟨Nat.le_of_ble_eq_true rfl, Nat.le_of_ble_eq_true rfl⟩) (hK.sub (tys' := tX cI cB) [0, 1] rfl) hP hD hS hA [0, 1, 2] [3, 4, 5] rfl (by decide) rfl rfl (by decide) (by decide) rfl rfl rfl hl.1 rfl (Nat.le_of_ble_eq_true rfl) dL_law_214 ⟨Nat.le_of_ble_eq_true rfl, Nat.le_of_ble_eq_true rfl⟩ (fun r1 u1 H locs h1 hP hD hS => ?_)
      obtain ⟨ec1, fd1, fm1, oa1⟩ := u1
      have hP := hP.sub (ws' := (gL h hf ho cI cB k kw ko cW cO G ec1 fd1 fm1 oa1 ow od)) [3, 4, 5, 0, 1, 2] rfl
      have hD := hD.sub (ws' := (gL h hf ho cI cB k kw ko cW cO G ec1 fd1 fm1 oa1 ow od)) [3, 4, 5, 0, 1, 2] (by decide) rfl
      refine lv_aload_n hx hb dL_law_217 rfl (lv_at hl 1 rfl) ?_
      refine lv_aload_n hx hb dL_law_218 rfl (lv_at hl 3 rfl) ?_
      refine lv_iload_n hx hb dL_law_219 rfl (lv_at hl 0 rfl) ?_
      refine lv_iconst (v := (nI 1)) hx hb dL_law_220 (by decide) ?_
      refine gx_iadd (n := i + 1) hx hb dL_law_221 rfl ?_
      refine gx_sld hx hb hX hbl hbA hS (by omega) (by omega) dL_law_222 ?_
      refine gw_cI (wr := (gX h hf ho cI cB G ec1 fd1 fm1 oa1)) (As := [.int (xs (i + 1))]) (rest := [.int r1]) (ci := 1) (q0 := 0) ⟨hx, hb, hml, hown, hts⟩ (mX2_halve l D k kw ko cW cO G ow od _ hI.2.1 (INV_wfM hI) (xs (i + 1))) (cwV 1 hts (lw_V q195 q196 q197 q21 q198) rfl rfl rfl (by decide +kernel) ⟨Nat.le_of_ble_eq_true rfl, Nat.le_of_ble_eq_true rfl⟩) (hK.sub (tys' := tM cW cO) [2, 3] rfl) hP hD hS hA [3, 4, 5] [0, 1, 2] rfl (by decide) rfl rfl (by decide) (by decide) rfl rfl rfl hl.1 rfl (Nat.le_of_ble_eq_true rfl) dL_law_223 ⟨Nat.le_of_ble_eq_true rfl, Nat.le_of_ble_eq_true rfl⟩ (fun r2 u2 H locs h2 hP hD hS => ?_)
      obtain ⟨ow1, od1⟩ := u2
      have hP : va_P D vwCl (gL h hf ho cI cB k kw ko cW cO G ec1 fd1 fm1 oa1 ow1 od1) H := hP
      have hD : va_D (fun q : Nat => s.heap.size ≤ q) (gL h hf ho cI cB k kw ko cW cO G ec1 fd1 fm1 oa1 ow1 od1) := hD
      have hop := op_ext1 hI (fun q hq e9 hx9 hm9 => INV_halve hI hq e9 hx9 hm9) h1 h2
      have er : r1 = r2 := hop.1
      have hI2 : INV G ec1 fm1 oa1 ow1 od1 := hop.2
      refine lv_icmp_eq (tgt := 336) hx hb dL_law_226 (by decide)  (fun c9 => ?_) (fun c9 => ?_)
      · refine lv_iinc (v := (nI (i + 3))) (lv' := [(3, .int (nI (i + 3))), (2, .ref k), (1, .ref h), (0, .ref b)]) hx hb dL_law_336 hl (k := 0) rfl (gn_inc3 i) (by decide) rfl (fun ls hl => ?_)
        refine lv_goto (tgt := 28) hx hb dL_law_339 (by decide) ?_
        exact ih (i + 3, ec1, fd1, fm1, oa1, ow1, od1) _ _ ls ⟨⟨by show i + 3 ≤ L + 1; omega, hI2⟩, ⟨hP, hD, hS⟩, lv_sub hl [0, 1, 2, 3] rfl⟩ (by show L + 1 - (i + 3) < L + 1 - i; omega)
      · exact absurd er c9
    · refine lv_tableIn (off := 189) (tgt := 231) hx hb dL_law_42 (by decide) (by decide) (by decide) (by decide) ?_
      refine lv_aload_n hx hb dL_law_231 rfl (lv_at hl 2 rfl) ?_
      refine lv_aload_n hx hb dL_law_232 rfl (lv_at hl 3 rfl) ?_
      refine lv_iload_n hx hb dL_law_233 rfl (lv_at hl 0 rfl) ?_
      refine lv_iconst (v := (nI 1)) hx hb dL_law_234 (by decide) ?_
      refine gx_iadd (n := i + 1) hx hb dL_law_235 rfl ?_
      refine gx_sld hx hb hX hbl hbA hS (by omega) (by omega) dL_law_236 ?_
      refine gw_cS (As := [.int (xs (i + 1))]) (rest := []) (ci := 0) (q0 := 0) ⟨hx, hb, hml, hown, hts⟩ (mX1_extentOf l D h hf ho cI cB G ec fd fm oa hI.2.1 (xs (i + 1))) (cwV 1 hts (lw_V q104 q105 q106 q20 q107) rfl rfl rfl (by decide +kernel) ⟨Nat.le_of_ble_eq_true rfl, Nat.le_of_ble_eq_true rfl⟩) (hK.sub (tys' := tX cI cB) [0, 1] rfl) (hP.sub (ws' := (gX h hf ho cI cB G ec fd fm oa)) [0, 1, 2] rfl) rfl rfl rfl hl.1 rfl (Nat.le_of_ble_eq_true rfl) dL_law_237 ⟨Nat.le_of_ble_eq_true rfl, Nat.le_of_ble_eq_true rfl⟩ (fun r1 h1 => ?_)
      refine lv_aload_n hx hb dL_law_240 rfl (lv_at hl 1 rfl) ?_
      refine lv_aload_n hx hb dL_law_241 rfl (lv_at hl 3 rfl) ?_
      refine lv_iload_n hx hb dL_law_242 rfl (lv_at hl 0 rfl) ?_
      refine lv_iconst (v := (nI 1)) hx hb dL_law_243 (by decide) ?_
      refine gx_iadd (n := i + 1) hx hb dL_law_244 rfl ?_
      refine gx_sld hx hb hX hbl hbA hS (by omega) (by omega) dL_law_245 ?_
      refine gw_cS (As := [.int (xs (i + 1))]) (rest := [.int r1]) (ci := 1) (q0 := 0) ⟨hx, hb, hml, hown, hts⟩ (mX2_extentOf l D k kw ko cW cO G ow od hI.2.1 (xs (i + 1))) (cwV 1 hts (lw_V q199 q200 q201 q21 q202) rfl rfl rfl (by decide +kernel) ⟨Nat.le_of_ble_eq_true rfl, Nat.le_of_ble_eq_true rfl⟩) (hK.sub (tys' := tM cW cO) [2, 3] rfl) (hP.sub (ws' := (gM k kw ko cW cO G ow od)) [3, 4, 5] rfl) rfl rfl rfl hl.1 rfl (Nat.le_of_ble_eq_true rfl) dL_law_246 ⟨Nat.le_of_ble_eq_true rfl, Nat.le_of_ble_eq_true rfl⟩ (fun r2 h2 => ?_)
      have er : r1 = r2 := op_xo hI h1 h2
      refine lv_icmp_eq (tgt := 336) hx hb dL_law_249 (by decide)  (fun c9 => ?_) (fun c9 => ?_)
      · refine lv_iinc (v := (nI (i + 3))) (lv' := [(3, .int (nI (i + 3))), (2, .ref k), (1, .ref h), (0, .ref b)]) hx hb dL_law_336 hl (k := 0) rfl (gn_inc3 i) (by decide) rfl (fun ls hl => ?_)
        refine lv_goto (tgt := 28) hx hb dL_law_339 (by decide) ?_
        exact ih (i + 3, ec, fd, fm, oa, ow, od) _ _ ls ⟨⟨by show i + 3 ≤ L + 1; omega, hI⟩, ⟨hP, hD, hS⟩, lv_sub hl [0, 1, 2, 3] rfl⟩ (by show L + 1 - (i + 3) < L + 1 - i; omega)
      · exact absurd er c9
    · refine lv_tableIn (off := 212) (tgt := 254) hx hb dL_law_42 (by decide) (by decide) (by decide) (by decide) ?_
      refine lv_aload_n hx hb dL_law_254 rfl (lv_at hl 2 rfl) ?_
      refine lv_aload_n hx hb dL_law_255 rfl (lv_at hl 3 rfl) ?_
      refine lv_iload_n hx hb dL_law_256 rfl (lv_at hl 0 rfl) ?_
      refine lv_iconst (v := (nI 1)) hx hb dL_law_257 (by decide) ?_
      refine gx_iadd (n := i + 1) hx hb dL_law_258 rfl ?_
      refine gx_sld hx hb hX hbl hbA hS (by omega) (by omega) dL_law_259 ?_
      refine gw_cS (As := [.int (xs (i + 1))]) (rest := []) (ci := 0) (q0 := 0) ⟨hx, hb, hml, hown, hts⟩ (mX1_freeBlocks l D h hf ho cI cB G ec fd fm oa hI.2.1 (xs (i + 1))) (cwV 1 hts (lw_V q108 q109 q110 q20 q111) rfl rfl rfl (by decide +kernel) ⟨Nat.le_of_ble_eq_true rfl, Nat.le_of_ble_eq_true rfl⟩) (hK.sub (tys' := tX cI cB) [0, 1] rfl) (hP.sub (ws' := (gX h hf ho cI cB G ec fd fm oa)) [0, 1, 2] rfl) rfl rfl rfl hl.1 rfl (Nat.le_of_ble_eq_true rfl) dL_law_260 ⟨Nat.le_of_ble_eq_true rfl, Nat.le_of_ble_eq_true rfl⟩ (fun r1 h1 => ?_)
      refine lv_aload_n hx hb dL_law_263 rfl (lv_at hl 1 rfl) ?_
      refine lv_aload_n hx hb dL_law_264 rfl (lv_at hl 3 rfl) ?_
      refine lv_iload_n hx hb dL_law_265 rfl (lv_at hl 0 rfl) ?_
      refine lv_iconst (v := (nI 1)) hx hb dL_law_266 (by decide) ?_
      refine gx_iadd (n := i + 1) hx hb dL_law_267 rfl ?_
      refine gx_sld hx hb hX hbl hbA hS (by omega) (by omega) dL_law_268 ?_
      refine gw_cS (As := [.int (xs (i + 1))]) (rest := [.int r1]) (ci := 1) (q0 := 0) ⟨hx, hb, hml, hown, hts⟩ (mX2_freeBlocks l D k kw ko cW cO G ow od hI.2.1 (xs (i + 1))) (cwV 1 hts (lw_V q203 q204 q205 q21 q206) rfl rfl rfl (by decide +kernel) ⟨Nat.le_of_ble_eq_true rfl, Nat.le_of_ble_eq_true rfl⟩) (hK.sub (tys' := tM cW cO) [2, 3] rfl) (hP.sub (ws' := (gM k kw ko cW cO G ow od)) [3, 4, 5] rfl) rfl rfl rfl hl.1 rfl (Nat.le_of_ble_eq_true rfl) dL_law_269 ⟨Nat.le_of_ble_eq_true rfl, Nat.le_of_ble_eq_true rfl⟩ (fun r2 h2 => ?_)
      have er : r1 = r2 := op_fb hI h1 h2
      refine lv_icmp_eq (tgt := 336) hx hb dL_law_272 (by decide)  (fun c9 => ?_) (fun c9 => ?_)
      · refine lv_iinc (v := (nI (i + 3))) (lv' := [(3, .int (nI (i + 3))), (2, .ref k), (1, .ref h), (0, .ref b)]) hx hb dL_law_336 hl (k := 0) rfl (gn_inc3 i) (by decide) rfl (fun ls hl => ?_)
        refine lv_goto (tgt := 28) hx hb dL_law_339 (by decide) ?_
        exact ih (i + 3, ec, fd, fm, oa, ow, od) _ _ ls ⟨⟨by show i + 3 ≤ L + 1; omega, hI⟩, ⟨hP, hD, hS⟩, lv_sub hl [0, 1, 2, 3] rfl⟩ (by show L + 1 - (i + 3) < L + 1 - i; omega)
      · exact absurd er c9
    · refine lv_tableIn (off := 235) (tgt := 277) hx hb dL_law_42 (by decide) (by decide) (by decide) (by decide) ?_
      refine lv_aload_n hx hb dL_law_277 rfl (lv_at hl 2 rfl) ?_
      refine lv_aload_n hx hb dL_law_278 rfl (lv_at hl 3 rfl) ?_
      refine lv_iload_n hx hb dL_law_279 rfl (lv_at hl 0 rfl) ?_
      refine lv_iconst (v := (nI 1)) hx hb dL_law_280 (by decide) ?_
      refine gx_iadd (n := i + 1) hx hb dL_law_281 rfl ?_
      refine gx_sld hx hb hX hbl hbA hS (by omega) (by omega) dL_law_282 ?_
      refine gw_cS (As := [.int (xs (i + 1))]) (rest := []) (ci := 0) (q0 := 0) ⟨hx, hb, hml, hown, hts⟩ (mX1_largestFree l D h hf ho cI cB G ec fd fm oa hI.2.1 (xs (i + 1))) (cwV 1 hts (lw_V q116 q117 q118 q20 q119) rfl rfl rfl (by decide +kernel) ⟨Nat.le_of_ble_eq_true rfl, Nat.le_of_ble_eq_true rfl⟩) (hK.sub (tys' := tX cI cB) [0, 1] rfl) (hP.sub (ws' := (gX h hf ho cI cB G ec fd fm oa)) [0, 1, 2] rfl) rfl rfl rfl hl.1 rfl (Nat.le_of_ble_eq_true rfl) dL_law_283 ⟨Nat.le_of_ble_eq_true rfl, Nat.le_of_ble_eq_true rfl⟩ (fun r1 h1 => ?_)
      refine lv_aload_n hx hb dL_law_286 rfl (lv_at hl 1 rfl) ?_
      refine lv_aload_n hx hb dL_law_287 rfl (lv_at hl 3 rfl) ?_
      refine lv_iload_n hx hb dL_law_288 rfl (lv_at hl 0 rfl) ?_
      refine lv_iconst (v := (nI 1)) hx hb dL_law_289 (by decide) ?_
      refine gx_iadd (n := i + 1) hx hb dL_law_290 rfl ?_
      refine gx_sld hx hb hX hbl hbA hS (by omega) (by omega) dL_law_291 ?_
      refine gw_cS (As := [.int (xs (i + 1))]) (rest := [.int r1]) (ci := 1) (q0 := 0) ⟨hx, hb, hml, hown, hts⟩ (mX2_largestFree l D k kw ko cW cO G ow od hI.2.1 (xs (i + 1))) (cwV 1 hts (lw_V q211 q212 q213 q21 q214) rfl rfl rfl (by decide +kernel) ⟨Nat.le_of_ble_eq_true rfl, Nat.le_of_ble_eq_true rfl⟩) (hK.sub (tys' := tM cW cO) [2, 3] rfl) (hP.sub (ws' := (gM k kw ko cW cO G ow od)) [3, 4, 5] rfl) rfl rfl rfl hl.1 rfl (Nat.le_of_ble_eq_true rfl) dL_law_292 ⟨Nat.le_of_ble_eq_true rfl, Nat.le_of_ble_eq_true rfl⟩ (fun r2 h2 => ?_)
      have er : r1 = r2 := op_lf hI h1 h2
      refine lv_icmp_eq (tgt := 336) hx hb dL_law_295 (by decide)  (fun c9 => ?_) (fun c9 => ?_)
      · refine lv_iinc (v := (nI (i + 3))) (lv' := [(3, .int (nI (i + 3))), (2, .ref k), (1, .ref h), (0, .ref b)]) hx hb dL_law_336 hl (k := 0) rfl (gn_inc3 i) (by decide) rfl (fun ls hl => ?_)
        refine lv_goto (tgt := 28) hx hb dL_law_339 (by decide) ?_
        exact ih (i + 3, ec, fd, fm, oa, ow, od) _ _ ls ⟨⟨by show i + 3 ≤ L + 1; omega, hI⟩, ⟨hP, hD, hS⟩, lv_sub hl [0, 1, 2, 3] rfl⟩ (by show L + 1 - (i + 3) < L + 1 - i; omega)
      · exact absurd er c9
    · refine lv_tableIn (off := 258) (tgt := 300) hx hb dL_law_42 (by decide) (by decide) (by decide) (by decide) ?_
      refine lv_aload_n hx hb dL_law_300 rfl (lv_at hl 2 rfl) ?_
      refine lv_aload_n hx hb dL_law_301 rfl (lv_at hl 3 rfl) ?_
      refine lv_iload_n hx hb dL_law_302 rfl (lv_at hl 0 rfl) ?_
      refine lv_iconst (v := (nI 1)) hx hb dL_law_303 (by decide) ?_
      refine gx_iadd (n := i + 1) hx hb dL_law_304 rfl ?_
      refine gx_sld hx hb hX hbl hbA hS (by omega) (by omega) dL_law_305 ?_
      refine gw_cS (As := [.int (xs (i + 1))]) (rest := []) (ci := 0) (q0 := 0) ⟨hx, hb, hml, hown, hts⟩ (mX1_freeRuns l D h hf ho cI cB G ec fd fm oa hI.2.1 (xs (i + 1))) (cwV 1 hts (lw_V q120 q121 q122 q20 q123) rfl rfl rfl (by decide +kernel) ⟨Nat.le_of_ble_eq_true rfl, Nat.le_of_ble_eq_true rfl⟩) (hK.sub (tys' := tX cI cB) [0, 1] rfl) (hP.sub (ws' := (gX h hf ho cI cB G ec fd fm oa)) [0, 1, 2] rfl) rfl rfl rfl hl.1 rfl (Nat.le_of_ble_eq_true rfl) dL_law_306 ⟨Nat.le_of_ble_eq_true rfl, Nat.le_of_ble_eq_true rfl⟩ (fun r1 h1 => ?_)
      refine lv_aload_n hx hb dL_law_309 rfl (lv_at hl 1 rfl) ?_
      refine lv_aload_n hx hb dL_law_310 rfl (lv_at hl 3 rfl) ?_
      refine lv_iload_n hx hb dL_law_311 rfl (lv_at hl 0 rfl) ?_
      refine lv_iconst (v := (nI 1)) hx hb dL_law_312 (by decide) ?_
      refine gx_iadd (n := i + 1) hx hb dL_law_313 rfl ?_
      refine gx_sld hx hb hX hbl hbA hS (by omega) (by omega) dL_law_314 ?_
      refine gw_cS (As := [.int (xs (i + 1))]) (rest := [.int r1]) (ci := 1) (q0 := 0) ⟨hx, hb, hml, hown, hts⟩ (mX2_freeRuns l D k kw ko cW cO G ow od hI.2.1 (xs (i + 1))) (cwV 1 hts (lw_V q215 q216 q217 q21 q218) rfl rfl rfl (by decide +kernel) ⟨Nat.le_of_ble_eq_true rfl, Nat.le_of_ble_eq_true rfl⟩) (hK.sub (tys' := tM cW cO) [2, 3] rfl) (hP.sub (ws' := (gM k kw ko cW cO G ow od)) [3, 4, 5] rfl) rfl rfl rfl hl.1 rfl (Nat.le_of_ble_eq_true rfl) dL_law_315 ⟨Nat.le_of_ble_eq_true rfl, Nat.le_of_ble_eq_true rfl⟩ (fun r2 h2 => ?_)
      have er : r1 = r2 := op_fr hI h1 h2
      refine lv_icmp_eq (tgt := 336) hx hb dL_law_318 (by decide)  (fun c9 => ?_) (fun c9 => ?_)
      · refine lv_iinc (v := (nI (i + 3))) (lv' := [(3, .int (nI (i + 3))), (2, .ref k), (1, .ref h), (0, .ref b)]) hx hb dL_law_336 hl (k := 0) rfl (gn_inc3 i) (by decide) rfl (fun ls hl => ?_)
        refine lv_goto (tgt := 28) hx hb dL_law_339 (by decide) ?_
        exact ih (i + 3, ec, fd, fm, oa, ow, od) _ _ ls ⟨⟨by show i + 3 ≤ L + 1; omega, hI⟩, ⟨hP, hD, hS⟩, lv_sub hl [0, 1, 2, 3] rfl⟩ (by show L + 1 - (i + 3) < L + 1 - i; omega)
      · exact absurd er c9
    · refine lv_tableIn (off := 281) (tgt := 323) hx hb dL_law_42 (by decide) (by decide) (by decide) (by decide) ?_
      refine lv_aload_n hx hb dL_law_323 rfl (lv_at hl 2 rfl) ?_
      refine gw_cS (As := []) (rest := []) (ci := 0) (q0 := 0) ⟨hx, hb, hml, hown, hts⟩ (mX1_extents l D h hf ho cI cB G ec fd fm oa  ) (cwV 0 hts (lw_V q124 q125 q126 q20 q127) rfl rfl rfl (by decide +kernel) ⟨Nat.le_of_ble_eq_true rfl, Nat.le_of_ble_eq_true rfl⟩) (hK.sub (tys' := tX cI cB) [0, 1] rfl) (hP.sub (ws' := (gX h hf ho cI cB G ec fd fm oa)) [0, 1, 2] rfl) rfl rfl rfl hl.1 rfl (Nat.le_of_ble_eq_true rfl) dL_law_324 ⟨Nat.le_of_ble_eq_true rfl, Nat.le_of_ble_eq_true rfl⟩ (fun r1 h1 => ?_)
      refine lv_aload_n hx hb dL_law_327 rfl (lv_at hl 1 rfl) ?_
      refine gw_cS (As := []) (rest := [.int r1]) (ci := 1) (q0 := 0) ⟨hx, hb, hml, hown, hts⟩ (mX2_extents l D k kw ko cW cO G ow od hI.2.1 ) (cwV 0 hts (lw_V q219 q220 q221 q21 q222) rfl rfl rfl (by decide +kernel) ⟨Nat.le_of_ble_eq_true rfl, Nat.le_of_ble_eq_true rfl⟩) (hK.sub (tys' := tM cW cO) [2, 3] rfl) (hP.sub (ws' := (gM k kw ko cW cO G ow od)) [3, 4, 5] rfl) rfl rfl rfl hl.1 rfl (Nat.le_of_ble_eq_true rfl) dL_law_328 ⟨Nat.le_of_ble_eq_true rfl, Nat.le_of_ble_eq_true rfl⟩ (fun r2 h2 => ?_)
      have er : r1 = r2 := op_ex hI h1 h2
      refine lv_icmp_eq (tgt := 336) hx hb dL_law_331 (by decide)  (fun c9 => ?_) (fun c9 => ?_)
      · refine lv_iinc (v := (nI (i + 3))) (lv' := [(3, .int (nI (i + 3))), (2, .ref k), (1, .ref h), (0, .ref b)]) hx hb dL_law_336 hl (k := 0) rfl (gn_inc3 i) (by decide) rfl (fun ls hl => ?_)
        refine lv_goto (tgt := 28) hx hb dL_law_339 (by decide) ?_
        exact ih (i + 3, ec, fd, fm, oa, ow, od) _ _ ls ⟨⟨by show i + 3 ≤ L + 1; omega, hI⟩, ⟨hP, hD, hS⟩, lv_sub hl [0, 1, 2, 3] rfl⟩ (by show L + 1 - (i + 3) < L + 1 - i; omega)
      · exact absurd er c9
    · refine lv_tableOut (tgt := 336) hx hb dL_law_42 (Or.inr (by rw [nI_toInt (by omega)]; omega)) (by decide) ?_
      refine lv_iinc (v := (nI (i + 3))) (lv' := [(3, .int (nI (i + 3))), (2, .ref k), (1, .ref h), (0, .ref b)]) hx hb dL_law_336 hl (k := 0) rfl (gn_inc3 i) (by decide) rfl (fun ls hl => ?_)
      refine lv_goto (tgt := 28) hx hb dL_law_339 (by decide) ?_
      exact ih (i + 3, ec, fd, fm, oa, ow, od) _ _ ls ⟨⟨by show i + 3 ≤ L + 1; omega, hI⟩, ⟨hP, hD, hS⟩, lv_sub hl [0, 1, 2, 3] rfl⟩ (by show L + 1 - (i + 3) < L + 1 - i; omega)
end
section
set_option maxHeartbeats 8000000 in
set_option maxRecDepth 100000 in
/-- YOUR PART: from the entry, for every script of at most 193 ints, the law comes to its end with true -/
theorem whole_start {p : Program} {e : Env} {s : State} {m : MethodId} {below : List Frame} {meth : Method} {c : Code} (l : Launch) {b L : Nat} {xs : Nat → Int32} (hL : L ≤ 193) (C0 : lw_At p s m meth c b L xs) : W p l e room_1 s m #[Value.ref b] below meth c s.heap [] 0 0 (lw_Z below #[Value.ref b] s) (entryFrame m ([Value.ref b] : List Value).toArray 4) := by
  obtain ⟨hx, hb, hr, hml, hown, hts0, hX, hbl, hlocks, hgv⟩ := id C0
  have hA : ∀ q : Nat, s.heap.size ≤ q → (fun q : Nat => s.heap.size ≤ q) q := fun _ h => h
  have hbA : ¬ (fun q : Nat => s.heap.size ≤ q) b := Nat.not_le.mpr hbl
  have hts : ∀ w ∈ lw_all, w.before #[Value.ref b] s = true := fun w h => hts0 w (lw_all_tbl h)
  obtain ⟨c0, iS0, hKn0⟩ := u_known (C := RX1) (T := TX1) (N := 5) (n := 5) hts in_X1 (hts _ q23)
  obtain ⟨c1, iS1, hKn1⟩ := u_known (C := RX2) (T := TX2) (N := 3) (n := 3) hts in_X2 (hts _ q132)
  obtain ⟨D, hKc⟩ : ∃ (D : va_G), ∀ (k : Nat) (q : vw_C), vwCl[k]? = some q → u_Kn s q.1 q.2.1 q.2.2 (D.1 k) (D.2 k) := by
    refine ⟨(fun k => if k = 0 then c0 else c1, fun k => if k = 0 then iS0 else iS1), ?_⟩
    intro k q hq
    match k, hq with
    | 0, hq => cases hq; exact hKn0
    | 1, hq => cases hq; exact hKn1
    | k + 2, hq => simp [vwCl] at hq
  have hS : va_S (fun q : Nat => s.heap.size ≤ q) s.heap s.heap [] := va_S.rf
  have hK : va_K D vwCl [] s := ⟨hKc, fun k q h => by simp at h⟩
  have hP : va_P D vwCl [] s.heap := fun k q h => by simp at h
  have hD : va_D (fun q : Nat => s.heap.size ≤ q) [] := ⟨fun i j p q h => by simp at h, fun k q h => by simp at h⟩
  have hl := lv_entry ([.ref b]) (n := 4) (Nat.le_of_ble_eq_true rfl)
  rw [lg_entry_eq]
  generalize (lg_sl ([.ref b]) ++ List.replicate (4 - (lg_sl ([.ref b])).length) Slot.unset).toArray = ls at hl ⊢
  have hl : lv_has ls 4 [(0, .ref b)] := hl
  refine va_new (ci := 0) (fs := [.int 0, .null, .null, .int 0, .int 0]) (C := RX1) (T := TX1) (N := 5) hx hb hts in_X1 tyX1 tyX1_ok hown (hts _ q22) (hts _ q23) (hts _ q20) hK hP hD hS hA rfl (fun j hj => by rcases (show j = 0 ∨ j = 1 ∨ j = 2 ∨ j = 3 ∨ j = 4 by omega) with rfl | rfl | rfl | rfl | rfl <;> rfl) (Nat.le_of_ble_eq_true rfl) (Nat.le_of_ble_eq_true rfl) dL_law_0 (fun h H hP hD hS => ?_)
  have hP : va_P D vwCl [(h, .inr (0, [.int 0, .null, .null, .int 0, .int 0]))] H := hP
  have hD : va_D (fun q : Nat => s.heap.size ≤ q) [(h, .inr (0, [.int 0, .null, .null, .int 0, .int 0]))] := hD
  refine W.widen (k := 1) (n := 5) (by decide) (by decide) ?_
  refine lv_dup hx hb dL_law_3 rfl ?_
  refine lv_aload_n hx hb dL_law_4 rfl (lv_at hl 0 rfl) ?_
  refine lv_iconst (v := (nI 0)) hx hb dL_law_5 (by decide) ?_
  refine vp_callSi (va_runS (As := [.ref b, .int (nI 0)]) (rest := [.ref h, .ref h]) ⟨hx, hb, hml, hown, hts⟩ (mX0_cell l b L xs hL) (va_cwS 2 hts (lw_S q128 q129 q19 q130) rfl rfl rfl (by decide +kernel) ⟨Nat.le_of_ble_eq_true rfl, Nat.le_of_ble_eq_true rfl⟩) ⟨fun a U g mk q => ⟨q.1, va_X.moved (u := U) (U := U.calling g mk a) (Vm.Alike.refl U.vm) q.2⟩, fun U hU hW => ⟨rfl, by show va_X b L xs U U.heap; rw [hU]; exact (hX.kept (hS.2.1 b hbl hbA)).moved hW.alike⟩⟩ rfl rfl hl.1 rfl (lv_room (Nat.le_of_ble_eq_true rfl)) dL_law_6 ⟨Nat.le_of_ble_eq_true rfl, Nat.le_of_ble_eq_true rfl⟩).run (fun r0 hr0 => ?_)
  have hr0 : r0 = cell0 L xs := hr0
  subst hr0
  have hPc := hP.sub (ws' := [(h, .inr (0, [.int 0, .null, .null, .int 0, .int 0]))]) [0] rfl
  have hDc := hD.sub (ws' := [(h, .inr (0, [.int 0, .null, .null, .int 0, .int 0]))]) [0] (by decide) rfl
  have hKc := hK.sub (tys' := []) [] rfl
  have hFc := va_free (wc := [(h, .inr (0, [.int 0, .null, .null, .int 0, .int 0]))]) hD hS hA [0] rfl
  refine va_callv (va_runI (As := [.int (cell0 L xs)]) (rest := [.ref h]) ⟨hx, hb, hml, hown, hts⟩ (mX1_init l D h H.size (cell0 L xs)) (cwI 1 hts (lw_meth q26) rfl rfl rfl (hts _ q20) (hts _ q24) (hts _ q25) rfl (by decide +kernel) ⟨Nat.le_of_ble_eq_true rfl, Nat.le_of_ble_eq_true rfl⟩) ⟨fun a U g mk q => by obtain ⟨q0, q1, qP, qK, qD⟩ := q; exact ⟨q0, q1, qP, va_K.moved (u := U) (U := U.calling g mk a) (Vm.Alike.refl U.vm) qK, qD⟩, fun U hU hW => ⟨rfl, by rw [hU], by rw [hU]; exact hPc, va_K.moved hW.alike hKc, hDc.weaken (fun _ _ _ _ => trivial)⟩⟩ rfl rfl hl.1 rfl (lv_room (Nat.le_of_ble_eq_true rfl)) dL_law_9 ⟨Nat.le_of_ble_eq_true rfl, Nat.le_of_ble_eq_true rfl⟩) hS (fun q _ h => hFc q h) hFc (fun u t H1 locs ht hvm _ hB hz1 hk1 hS => ?_)
  obtain ⟨hf, ho, cI, cB⟩ := u
  obtain ⟨hP1, hK1, hD1⟩ := hB
  rw [ht] at hP1
  have hK1 := va_K.moved hvm.symm hK1
  have hP1 : va_P D vwCl (gX h hf ho cI cB (clG (cell0 L xs)) 0 0 (fmI (clG (cell0 L xs))) neg1) H1 := hP1
  have hD1 : va_D _ (gX h hf ho cI cB (clG (cell0 L xs)) 0 0 (fmI (clG (cell0 L xs))) neg1) := hD1
  obtain ⟨hP, hD⟩ := va_join (wr := []) (w1 := (gX h hf ho cI cB (clG (cell0 L xs)) 0 0 (fmI (clG (cell0 L xs))) neg1)) hP hD [0] [] rfl rfl (by decide) (by decide) hk1 hFc hP1 hD1
  have hK := (hK.sub (tys' := []) [] rfl).app hK1
  generalize H1 = H at hP hS ⊢
  have hP : va_P D vwCl (gX h hf ho cI cB (clG (cell0 L xs)) 0 0 (fmI (clG (cell0 L xs))) neg1) H := hP
  have hD : va_D (fun q : Nat => s.heap.size ≤ q) (gX h hf ho cI cB (clG (cell0 L xs)) 0 0 (fmI (clG (cell0 L xs))) neg1) := hD
  have hK : va_K D vwCl (tX cI cB) s := hK
  refine W.widen (k := 3) (n := 157) (by decide) (by decide) ?_
  refine lv_astore_n (lv' := [(1, .ref h), (0, .ref b)]) hx hb dL_law_12 rfl hl (by decide) rfl (fun ls hl => ?_)
  refine va_new (ci := 1) (fs := [.int 0, .null, .null]) (C := RX2) (T := TX2) (N := 3) hx hb hts in_X2 tyX2 tyX2_ok hown (hts _ q131) (hts _ q132) (hts _ q21) hK hP hD hS hA rfl (fun j hj => by rcases (show j = 0 ∨ j = 1 ∨ j = 2 by omega) with rfl | rfl | rfl <;> rfl) (Nat.le_of_ble_eq_true rfl) (Nat.le_of_ble_eq_true rfl) dL_law_13 (fun k H hP hD hS => ?_)
  have hP : va_P D vwCl ((gX h hf ho cI cB (clG (cell0 L xs)) 0 0 (fmI (clG (cell0 L xs))) neg1) ++ [(k, .inr (1, [.int 0, .null, .null]))]) H := hP
  have hD : va_D (fun q : Nat => s.heap.size ≤ q) ((gX h hf ho cI cB (clG (cell0 L xs)) 0 0 (fmI (clG (cell0 L xs))) neg1) ++ [(k, .inr (1, [.int 0, .null, .null]))]) := hD
  refine W.widen (k := 4) (n := 160) (by decide) (by decide) ?_
  refine lv_dup hx hb dL_law_16 rfl ?_
  refine lv_aload_n hx hb dL_law_17 rfl (lv_at hl 1 rfl) ?_
  refine lv_iconst (v := (nI 0)) hx hb dL_law_18 (by decide) ?_
  refine vp_callSi (va_runS (As := [.ref b, .int (nI 0)]) (rest := [.ref k, .ref k]) ⟨hx, hb, hml, hown, hts⟩ (mX0_cell l b L xs hL) (va_cwS 2 hts (lw_S q128 q129 q19 q130) rfl rfl rfl (by decide +kernel) ⟨Nat.le_of_ble_eq_true rfl, Nat.le_of_ble_eq_true rfl⟩) ⟨fun a U g mk q => ⟨q.1, va_X.moved (u := U) (U := U.calling g mk a) (Vm.Alike.refl U.vm) q.2⟩, fun U hU hW => ⟨rfl, by show va_X b L xs U U.heap; rw [hU]; exact (hX.kept (hS.2.1 b hbl hbA)).moved hW.alike⟩⟩ rfl rfl hl.1 rfl (lv_room (Nat.le_of_ble_eq_true rfl)) dL_law_19 ⟨Nat.le_of_ble_eq_true rfl, Nat.le_of_ble_eq_true rfl⟩).run (fun r0 hr0 => ?_)
  have hr0 : r0 = cell0 L xs := hr0
  subst hr0
  have hPc := hP.sub (ws' := [(k, .inr (1, [.int 0, .null, .null]))]) [3] rfl
  have hDc := hD.sub (ws' := [(k, .inr (1, [.int 0, .null, .null]))]) [3] (by decide) rfl
  have hKc := hK.sub (tys' := []) [] rfl
  have hFc := va_free (wc := [(k, .inr (1, [.int 0, .null, .null]))]) hD hS hA [3] rfl
  refine va_callv (va_runI (As := [.int (cell0 L xs)]) (rest := [.ref k]) ⟨hx, hb, hml, hown, hts⟩ (mX2_init l D k H.size (cell0 L xs)) (cwI 1 hts (lw_meth q135) rfl rfl rfl (hts _ q21) (hts _ q133) (hts _ q134) rfl (by decide +kernel) ⟨Nat.le_of_ble_eq_true rfl, Nat.le_of_ble_eq_true rfl⟩) ⟨fun a U g mk q => by obtain ⟨q0, q1, qP, qK, qD⟩ := q; exact ⟨q0, q1, qP, va_K.moved (u := U) (U := U.calling g mk a) (Vm.Alike.refl U.vm) qK, qD⟩, fun U hU hW => ⟨rfl, by rw [hU], by rw [hU]; exact hPc, va_K.moved hW.alike hKc, hDc.weaken (fun _ _ _ _ => trivial)⟩⟩ rfl rfl hl.1 rfl (lv_room (Nat.le_of_ble_eq_true rfl)) dL_law_22 ⟨Nat.le_of_ble_eq_true rfl, Nat.le_of_ble_eq_true rfl⟩) hS (fun q _ h => hFc q h) hFc (fun u t H1 locs ht hvm _ hB hz1 hk1 hS => ?_)
  obtain ⟨kw, ko, cW, cO⟩ := u
  obtain ⟨hP1, hK1, hD1⟩ := hB
  rw [ht] at hP1
  have hK1 := va_K.moved hvm.symm hK1
  have hP1 : va_P D vwCl (gM k kw ko cW cO (clG (cell0 L xs)) neg1 (fun _ => 0)) H1 := hP1
  have hD1 : va_D _ (gM k kw ko cW cO (clG (cell0 L xs)) neg1 (fun _ => 0)) := hD1
  obtain ⟨hP, hD⟩ := va_join (wr := (gX h hf ho cI cB (clG (cell0 L xs)) 0 0 (fmI (clG (cell0 L xs))) neg1)) (w1 := (gM k kw ko cW cO (clG (cell0 L xs)) neg1 (fun _ => 0))) hP hD [3] [0, 1, 2] rfl rfl (by decide) (by decide) hk1 hFc hP1 hD1
  have hK := (hK.sub (tys' := (tX cI cB)) [0, 1] rfl).app hK1
  generalize H1 = H at hP hS ⊢
  have hP : va_P D vwCl ((gX h hf ho cI cB (clG (cell0 L xs)) 0 0 (fmI (clG (cell0 L xs))) neg1) ++ (gM k kw ko cW cO (clG (cell0 L xs)) neg1 (fun _ => 0))) H := hP
  have hD : va_D (fun q : Nat => s.heap.size ≤ q) ((gX h hf ho cI cB (clG (cell0 L xs)) 0 0 (fmI (clG (cell0 L xs))) neg1) ++ (gM k kw ko cW cO (clG (cell0 L xs)) neg1 (fun _ => 0))) := hD
  have hK : va_K D vwCl (tL cI cB cW cO) s := hK
  refine W.widen (k := 6) (n := 416) (by decide) (by decide) ?_
  refine lv_astore_n (lv' := [(2, .ref k), (1, .ref h), (0, .ref b)]) hx hb dL_law_25 rfl hl (by decide) rfl (fun ls hl => ?_)
  refine lv_iconst (v := (nI 1)) hx hb dL_law_26 (by decide) ?_
  refine lv_istore_n (lv' := [(3, .int (nI 1)), (2, .ref k), (1, .ref h), (0, .ref b)]) hx hb dL_law_27 rfl hl (by decide) rfl (fun ls hl => ?_)
  exact law_loop l hL C0 hK (by omega) (INV_0 (cell0 L xs)) hP hD hS hl
end
section
set_option maxHeartbeats 4000000 in
theorem lw_walk (l : Launch) (b : Addr) (xs : List Int32) : MetFree l x (headSpec (Jvm.Cond.code x code maxLocals ret :: tables_1) room_1) (lw_P b xs) (fun _ _ _ _ _ => True) lw_Q := by
  refine MetFree.of_bodyS (code := code) (maxLocals := maxLocals) (ret := ret) (by decide) ?_ ?_
  · intro args s m h hn
    obtain ⟨meth, c, h1, h2, h3, h4, h5, h6, -, -⟩ := Cond.code_spec hn (atoms_spec (ws := Jvm.Cond.code x code maxLocals ret :: tables_1) h _ List.mem_cons_self)
    exact ⟨meth, c, h1, h2, h3, h4, h5, h6⟩
  · intro p e s m args below meth c s₁ B hml0 hP _
    obtain ⟨rfl, hx, hbd, hgv⟩ := hP
    obtain ⟨scr, harrAt, hlist, hof, hsmall⟩ := hx
    obtain ⟨hcb, hkn, -, -⟩ := State.arrayAt?_spec harrAt
    have hown : s.vm.findClass R_law = some m.cls := findClass_of_methodNamed B.named
    have hts0 : ∀ c ∈ (Jvm.Cond.code x code maxLocals ret :: tables_1), c.before #[Value.ref b] s = true := atoms_spec (ws := Jvm.Cond.code x code maxLocals ret :: tables_1) B.pre
    have hts : ∀ w ∈ lw_tbl, w.before #[Value.ref b] s = true := k2_hts_sels lw_privs (fun w hw => hts0 w (List.mem_cons_of_mem _ hw)) lw_privs_ok
    have hml : c.maxLocals = 4 := B.maxLocals_eq (hts0 _ List.mem_cons_self)
    have X₀ : Stand p l e room_1 s m #[Value.ref b] below meth c s₁ [] 0 0 := Stand.of_body B
    have hh0 : s₁.heap = s.heap := by rw [B.state]; rfl
    have hsz : scr.slots.size = xs.length := by rw [← Array.length_toList, hlist, List.length_map]
    have hval : ∀ j : Nat, j < xs.length → scr.slots[j]? = some (.int (xs.getD j 0)) := fun j hj => by
      rw [← Array.getElem?_toList, hlist]
      simp [hj]
    have hbl : b < s.heap.size := (Array.getElem?_eq_some_iff.mp hcb).1
    have hX : va_X b xs.length (fun j => xs.getD j 0) s s.heap := ⟨scr, hcb, hof, hkn, hsz, hval⟩
    have K : W p l e room_1 s m #[Value.ref b] below meth c s₁.heap [] 0 0 (lw_Z below #[Value.ref b] s) (entryFrame m ([Value.ref b] : List Value).toArray 4) := by
      rw [hh0]
      exact whole_start l hbd ⟨B.exec, B.bytes, B.returns, hml, hown, hts, hX, hbl, B.notSynchronized, hgv⟩
    obtain ⟨t, a1, o, b1, b2, b3⟩ := K s₁ rfl X₀
    exact ⟨t, o, a1, b1, b2, b3⟩
theorem lw_pre_spec {args : Array Value} {s : State} (h : (Jvm.Cond.and given_1 narrow_1).before args s = true) (hr : rest_1_c.before args s = true) : ∃ (b : Addr) (xs : List Int32), lw_P b xs args s := by
  have hs := flat_of_before _ h
  have hq := flat_of_before _ hr
  have hc : (Cond.count 1).before args s = true := hs _ (by decide +kernel)
  have harr : (Cond.arrayOf (.arg 0) .int).before args s = true := hs _ (by decide +kernel)
  have hle : (Cond.le (.length (.arg 0)) (.int 193)).before args s = true := hs _ (by decide +kernel)
  have hlen : (Cond.isInt (.length (.arg 0))).before args s = true := hq _ (by decide +kernel)
  have hall : (Cond.all (.arg 0) (.isInt (.elem (.arg 0) (.index 0)))).before args s = true := hq _ (by decide +kernel)
  obtain ⟨b, xs, hb, hx⟩ := State.ints_of_pre rfl harr hlen hall
  have hsm : xs.length < 2 ^ 31 := hx.choose_spec.2.2.2
  have hev : (Term.length (.arg 0)).eval args s none [] s = some (.int xs.length.toInt32) := hx.length_eval hb
  have hv := Cond.le_ints hev (show (Term.int 193).eval args s none [] s = some (.int 193) from rfl)
  have hd : xs.length.toInt32 ≤ 193 := by
    simpa [Cond.before, Cond.holds, hv] using hle
  have hN : xs.length ≤ 193 := (Int32.ofNat_le_ofNat hsm (by decide)).mp (show Int32.ofNat xs.length ≤ Int32.ofNat 193 from hd)
  exact ⟨b, xs, Cond.one_arg hc (show args[0]? = some (.ref b) from hb), hx, hN, h⟩
theorem lw_comes (l : Launch) : Comes l x (Jvm.Cond.code x code maxLocals ret :: tables_1) room_1 (fun tb e args s => Calls_1 tb e args s ∧ rest_1 tb e args s ∧ Pre_1 tb e args s)
    (fun _ _ args s o t => lw_Q args s o t) := by
  intro p e ha hc hk s m args below hf hfit hheap happ hpre
  obtain ⟨b, xs, hP⟩ := lw_pre_spec hpre.2.2 hpre.2.1
  obtain ⟨k, o, h1, h2, h3, hQ⟩ := lw_walk l b xs p e ha hc hk s m args below hf ((Spec.applies_iff_loose hf).mp happ).1 hP trivial
  exact ⟨k, o, h1, h2, h3, hQ⟩
theorem lw_frame {s t : State} {o : Outcome} {args : Array Value} (h : Framed s o t [] 600000 7290000) :
    Framed s o t (fieldLocs frame_1_writes args s ++ arrayLocs frame_1_arrays args s ++ staticLocs frame_1_statics s) 600000 7290000 := h
theorem lw_limb (L : Cond) (hL : ∀ (args : Array Value) (s t : State), L.after args s (.returned (some (.int 1))) t = true) :
    ArmFor flags0 classFile x code maxLocals ret World_1 tables_1 room_1 Calls_1 rest_1 Pre_1
      (fun tb e a s o t => postC L tb e a s o t ∧ Framed s o t (fieldLocs frame_1_writes a s ++ arrayLocs frame_1_arrays a s ++ staticLocs frame_1_statics s) 600000 7290000) := by
  intro l _ _ _ p e ha hc hk s m args below hf hfit hheap happ hpre
  obtain ⟨k, o, h1, h2, h3, rfl, hF⟩ := lw_comes l p e ha hc hk s m args below hf hfit hheap happ hpre
  exact ⟨k, _, h1, h2, h3, hL args s _, lw_frame hF⟩
theorem i_vc : Claimed_1_1 ∧ Claimed_1_2 := ⟨lw_limb limb_1_1 (fun args s t => by simp [limb_1_1, Cond.after, Cond.holds, Cond.value]), lw_limb limb_1_2 (fun args s t => Cond.after_iff.mpr (by
  first | (rw [show limb_1_2 = Cond.eq .result (.int 1) from rfl, Cond.eq_ints (x := 1) (y := 1) rfl rfl]; simp; done) | (simp [limb_1_2, Cond.value, Term.eval]; done)))⟩
end
