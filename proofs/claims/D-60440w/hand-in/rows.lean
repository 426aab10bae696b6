section
-- ===== PART A: goes FIRST, ahead of the names: the tables' words, and 'selects' of the private methods out of them =====
/-- a private method of a class that the tables say can be made, by its rows of tables_1 -/
def lw_okq (q : MethodName × Nat) : Prop := (q.1.cls ≠ "java/lang/invoke/MethodHandle" ∧ q.1.cls ≠ "java/lang/invoke/VarHandle") ∧ Cond.instantiable q.1.cls q.2 ∈ tables_1 ∧ Cond.privateMethod q.1 ∈ tables_1 ∧ Cond.instanceMethod q.1 ∈ tables_1
set_option maxRecDepth 100000
theorem lw_t1 {w : Cond} (h : w ∈ tables_1_1) : w ∈ tables_1 := List.mem_append_left _ h
theorem lw_t2 {w : Cond} (h : w ∈ tables_1_2) : w ∈ tables_1 := List.mem_append_right _ h
theorem lw_p0 : lw_okq (⟨"OlderFirstHeap", "walkFromRoots", "()V"⟩, 18) := ⟨⟨by decide +kernel, by decide +kernel⟩, lw_t1 (List.mem_of_getElem? (i := 4) rfl), lw_t1 (List.mem_of_getElem? (i := 77) rfl), lw_t1 (List.mem_of_getElem? (i := 78) rfl)⟩
theorem lw_p1 : lw_okq (⟨"OlderFirstHeap", "startWalk", "()V"⟩, 18) := ⟨⟨by decide +kernel, by decide +kernel⟩, lw_t1 (List.mem_of_getElem? (i := 4) rfl), lw_t1 (List.mem_of_getElem? (i := 81) rfl), lw_t1 (List.mem_of_getElem? (i := 82) rfl)⟩
theorem lw_p2 : lw_okq (⟨"OlderFirstHeap", "visit", "(II)V"⟩, 18) := ⟨⟨by decide +kernel, by decide +kernel⟩, lw_t1 (List.mem_of_getElem? (i := 4) rfl), lw_t1 (List.mem_of_getElem? (i := 85) rfl), lw_t1 (List.mem_of_getElem? (i := 86) rfl)⟩
theorem lw_p3 : lw_okq (⟨"OlderFirstHeap", "finishWalk", "()V"⟩, 18) := ⟨⟨by decide +kernel, by decide +kernel⟩, lw_t1 (List.mem_of_getElem? (i := 4) rfl), lw_t1 (List.mem_of_getElem? (i := 89) rfl), lw_t1 (List.mem_of_getElem? (i := 90) rfl)⟩
theorem lw_p4 : lw_okq (⟨"OlderFirstHeap", "newSlot", "()I"⟩, 18) := ⟨⟨by decide +kernel, by decide +kernel⟩, lw_t1 (List.mem_of_getElem? (i := 4) rfl), lw_t1 (List.mem_of_getElem? (i := 93) rfl), lw_t1 (List.mem_of_getElem? (i := 94) rfl)⟩
theorem lw_p5 : lw_okq (⟨"OlderFirstHeap", "moveWindow", "()V"⟩, 18) := ⟨⟨by decide +kernel, by decide +kernel⟩, lw_t1 (List.mem_of_getElem? (i := 4) rfl), lw_t1 (List.mem_of_getElem? (i := 97) rfl), lw_t1 (List.mem_of_getElem? (i := 98) rfl)⟩
theorem lw_p6 : lw_okq (⟨"OlderFirstHeap", "collectBlock", "(I)V"⟩, 18) := ⟨⟨by decide +kernel, by decide +kernel⟩, lw_t1 (List.mem_of_getElem? (i := 4) rfl), lw_t1 (List.mem_of_getElem? (i := 101) rfl), lw_t1 (List.mem_of_getElem? (i := 102) rfl)⟩
theorem lw_p7 : lw_okq (⟨"OlderFirstHeap", "within", "(II)Z"⟩, 18) := ⟨⟨by decide +kernel, by decide +kernel⟩, lw_t1 (List.mem_of_getElem? (i := 4) rfl), lw_t1 (List.mem_of_getElem? (i := 105) rfl), lw_t1 (List.mem_of_getElem? (i := 106) rfl)⟩
theorem lw_p8 : lw_okq (⟨"OlderFirstHeap", "evacuate", "(I)I"⟩, 18) := ⟨⟨by decide +kernel, by decide +kernel⟩, lw_t1 (List.mem_of_getElem? (i := 4) rfl), lw_t1 (List.mem_of_getElem? (i := 109) rfl), lw_t1 (List.mem_of_getElem? (i := 110) rfl)⟩
theorem lw_p9 : lw_okq (⟨"OlderFirstHeap", "bump", "()I"⟩, 18) := ⟨⟨by decide +kernel, by decide +kernel⟩, lw_t1 (List.mem_of_getElem? (i := 4) rfl), lw_t1 (List.mem_of_getElem? (i := 113) rfl), lw_t1 (List.mem_of_getElem? (i := 114) rfl)⟩
theorem lw_p10 : lw_okq (⟨"OlderFirstHeap", "openBlock", "()V"⟩, 18) := ⟨⟨by decide +kernel, by decide +kernel⟩, lw_t1 (List.mem_of_getElem? (i := 4) rfl), lw_t1 (List.mem_of_getElem? (i := 117) rfl), lw_t1 (List.mem_of_getElem? (i := 118) rfl)⟩
theorem lw_p11 : lw_okq (⟨"OlderFirstHeap", "inUse", "(I)Z"⟩, 18) := ⟨⟨by decide +kernel, by decide +kernel⟩, lw_t1 (List.mem_of_getElem? (i := 4) rfl), lw_t1 (List.mem_of_getElem? (i := 121) rfl), lw_t1 (List.mem_of_getElem? (i := 122) rfl)⟩
theorem lw_p12 : lw_okq (⟨"OlderFirstHeap", "youngest", "()I"⟩, 18) := ⟨⟨by decide +kernel, by decide +kernel⟩, lw_t1 (List.mem_of_getElem? (i := 4) rfl), lw_t1 (List.mem_of_getElem? (i := 125) rfl), lw_t1 (List.mem_of_getElem? (i := 126) rfl)⟩
theorem lw_p13 : lw_okq (⟨"OlderFirstHeap", "fixFields", "(II)V"⟩, 18) := ⟨⟨by decide +kernel, by decide +kernel⟩, lw_t1 (List.mem_of_getElem? (i := 4) rfl), lw_t1 (List.mem_of_getElem? (i := 129) rfl), lw_t1 (List.mem_of_getElem? (i := 130) rfl)⟩
theorem lw_p14 : lw_okq (⟨"OlderFirstHeap", "remember", "(II)V"⟩, 18) := ⟨⟨by decide +kernel, by decide +kernel⟩, lw_t1 (List.mem_of_getElem? (i := 4) rfl), lw_t1 (List.mem_of_getElem? (i := 133) rfl), lw_t1 (List.mem_of_getElem? (i := 134) rfl)⟩
theorem lw_p15 : lw_okq (⟨"OlderFirstHeap", "freeBlock", "(I)V"⟩, 18) := ⟨⟨by decide +kernel, by decide +kernel⟩, lw_t1 (List.mem_of_getElem? (i := 4) rfl), lw_t1 (List.mem_of_getElem? (i := 137) rfl), lw_t1 (List.mem_of_getElem? (i := 138) rfl)⟩
def lw_privs_1 : List (MethodName × Nat) := [(⟨"OlderFirstHeap", "walkFromRoots", "()V"⟩, 18), (⟨"OlderFirstHeap", "startWalk", "()V"⟩, 18), (⟨"OlderFirstHeap", "visit", "(II)V"⟩, 18), (⟨"OlderFirstHeap", "finishWalk", "()V"⟩, 18), (⟨"OlderFirstHeap", "newSlot", "()I"⟩, 18), (⟨"OlderFirstHeap", "moveWindow", "()V"⟩, 18), (⟨"OlderFirstHeap", "collectBlock", "(I)V"⟩, 18), (⟨"OlderFirstHeap", "within", "(II)Z"⟩, 18), (⟨"OlderFirstHeap", "evacuate", "(I)I"⟩, 18), (⟨"OlderFirstHeap", "bump", "()I"⟩, 18), (⟨"OlderFirstHeap", "openBlock", "()V"⟩, 18), (⟨"OlderFirstHeap", "inUse", "(I)Z"⟩, 18), (⟨"OlderFirstHeap", "youngest", "()I"⟩, 18), (⟨"OlderFirstHeap", "fixFields", "(II)V"⟩, 18), (⟨"OlderFirstHeap", "remember", "(II)V"⟩, 18), (⟨"OlderFirstHeap", "freeBlock", "(I)V"⟩, 18)]
theorem lw_r1 : ∀ q ∈ lw_privs_1, lw_okq q := List.forall_mem_cons.mpr ⟨lw_p0, List.forall_mem_cons.mpr ⟨lw_p1, List.forall_mem_cons.mpr ⟨lw_p2, List.forall_mem_cons.mpr ⟨lw_p3, List.forall_mem_cons.mpr ⟨lw_p4, List.forall_mem_cons.mpr ⟨lw_p5, List.forall_mem_cons.mpr ⟨lw_p6, List.forall_mem_cons.mpr ⟨lw_p7, List.forall_mem_cons.mpr ⟨lw_p8, List.forall_mem_cons.mpr ⟨lw_p9, List.forall_mem_cons.mpr ⟨lw_p10, List.forall_mem_cons.mpr ⟨lw_p11, List.forall_mem_cons.mpr ⟨lw_p12, List.forall_mem_cons.mpr ⟨lw_p13, List.forall_mem_cons.mpr ⟨lw_p14, List.forall_mem_cons.mpr ⟨lw_p15, fun _ h => absurd h List.not_mem_nil⟩⟩⟩⟩⟩⟩⟩⟩⟩⟩⟩⟩⟩⟩⟩⟩
theorem lw_p16 : lw_okq (⟨"OlderFirstHeap", "collectAll", "()V"⟩, 18) := ⟨⟨by decide +kernel, by decide +kernel⟩, lw_t1 (List.mem_of_getElem? (i := 4) rfl), lw_t1 (List.mem_of_getElem? (i := 143) rfl), lw_t1 (List.mem_of_getElem? (i := 144) rfl)⟩
theorem lw_p17 : lw_okq (⟨"OlderFirstHeap", "moved", "(I)I"⟩, 18) := ⟨⟨by decide +kernel, by decide +kernel⟩, lw_t1 (List.mem_of_getElem? (i := 4) rfl), lw_t1 (List.mem_of_getElem? (i := 147) rfl), lw_t1 (List.mem_of_getElem? (i := 148) rfl)⟩
theorem lw_p18 : lw_okq (⟨"OlderFirstHeap", "layOut", "(I)V"⟩, 18) := ⟨⟨by decide +kernel, by decide +kernel⟩, lw_t1 (List.mem_of_getElem? (i := 4) rfl), lw_t1 (List.mem_of_getElem? (i := 151) rfl), lw_t1 (List.mem_of_getElem? (i := 152) rfl)⟩
theorem lw_p19 : lw_okq (⟨"OlderFirstHeap", "empty", "(I)Z"⟩, 18) := ⟨⟨by decide +kernel, by decide +kernel⟩, lw_t1 (List.mem_of_getElem? (i := 4) rfl), lw_t1 (List.mem_of_getElem? (i := 186) rfl), lw_t1 (List.mem_of_getElem? (i := 187) rfl)⟩
theorem lw_p20 : lw_okq (⟨"OlderFirstHeapModel", "isRoot", "(I)Z"⟩, 4) := ⟨⟨by decide +kernel, by decide +kernel⟩, lw_t1 (List.mem_of_getElem? (i := 217) rfl), lw_t2 (List.mem_of_getElem? (i := 0) rfl), lw_t2 (List.mem_of_getElem? (i := 1) rfl)⟩
theorem lw_p21 : lw_okq (⟨"OlderFirstHeapModel", "spread", "(I)V"⟩, 4) := ⟨⟨by decide +kernel, by decide +kernel⟩, lw_t1 (List.mem_of_getElem? (i := 217) rfl), lw_t2 (List.mem_of_getElem? (i := 8) rfl), lw_t2 (List.mem_of_getElem? (i := 9) rfl)⟩
theorem lw_p22 : lw_okq (⟨"OlderFirstHeapModel", "found", "()I"⟩, 4) := ⟨⟨by decide +kernel, by decide +kernel⟩, lw_t1 (List.mem_of_getElem? (i := 217) rfl), lw_t2 (List.mem_of_getElem? (i := 12) rfl), lw_t2 (List.mem_of_getElem? (i := 13) rfl)⟩
theorem lw_p23 : lw_okq (⟨"OlderFirstHeapModel", "refusal", "(III)I"⟩, 4) := ⟨⟨by decide +kernel, by decide +kernel⟩, lw_t1 (List.mem_of_getElem? (i := 217) rfl), lw_t2 (List.mem_of_getElem? (i := 28) rfl), lw_t2 (List.mem_of_getElem? (i := 29) rfl)⟩
theorem lw_p24 : lw_okq (⟨"OlderFirstHeapModel", "objectOf", "(I)I"⟩, 4) := ⟨⟨by decide +kernel, by decide +kernel⟩, lw_t1 (List.mem_of_getElem? (i := 217) rfl), lw_t2 (List.mem_of_getElem? (i := 48) rfl), lw_t2 (List.mem_of_getElem? (i := 49) rfl)⟩
def lw_privs_2 : List (MethodName × Nat) := [(⟨"OlderFirstHeap", "collectAll", "()V"⟩, 18), (⟨"OlderFirstHeap", "moved", "(I)I"⟩, 18), (⟨"OlderFirstHeap", "layOut", "(I)V"⟩, 18), (⟨"OlderFirstHeap", "empty", "(I)Z"⟩, 18), (⟨"OlderFirstHeapModel", "isRoot", "(I)Z"⟩, 4), (⟨"OlderFirstHeapModel", "spread", "(I)V"⟩, 4), (⟨"OlderFirstHeapModel", "found", "()I"⟩, 4), (⟨"OlderFirstHeapModel", "refusal", "(III)I"⟩, 4), (⟨"OlderFirstHeapModel", "objectOf", "(I)I"⟩, 4)]
theorem lw_r2 : ∀ q ∈ lw_privs_2, lw_okq q := List.forall_mem_cons.mpr ⟨lw_p16, List.forall_mem_cons.mpr ⟨lw_p17, List.forall_mem_cons.mpr ⟨lw_p18, List.forall_mem_cons.mpr ⟨lw_p19, List.forall_mem_cons.mpr ⟨lw_p20, List.forall_mem_cons.mpr ⟨lw_p21, List.forall_mem_cons.mpr ⟨lw_p22, List.forall_mem_cons.mpr ⟨lw_p23, List.forall_mem_cons.mpr ⟨lw_p24, fun _ h => absurd h List.not_mem_nil⟩⟩⟩⟩⟩⟩⟩⟩⟩
def lw_privs : List (MethodName × Nat) := lw_privs_1 ++ (lw_privs_2)
def lw_tbl : List Cond := k2_sels lw_privs ++ tables_1
theorem lw_privs_ok : ∀ q ∈ lw_privs, lw_okq q := by
  show ∀ q ∈ lw_privs_1 ++ (lw_privs_2), lw_okq q
  exact List.forall_mem_append.mpr ⟨lw_r1, lw_r2⟩
-- ===== ONE list of words for every method: the tables' words that hold all through a run =====
def lw_all : List Cond := lw_tbl.filter goodWord
/-- a word of the tables by its place: claim/WORDS.tsv -/
theorem lw_w {w : Cond} (i : Nat) (h : lw_tbl[i]? = some w) (g : goodWord w = true) : w ∈ lw_all := List.mem_filter.mpr ⟨List.mem_of_getElem? h, g⟩
theorem lw_all_tbl {w : Cond} (h : w ∈ lw_all) : w ∈ lw_tbl := (List.mem_filter.mp h).1
theorem lw_self : GoodIn lw_all lw_all := fun w h => ⟨h, good_of_word (List.mem_filter.mp h).2⟩
/-- a class's field words, by their places -/
theorem lw_in (ws : List Cond) (ps : List Nat) (hp : ws = ps.filterMap (fun i => lw_tbl[i]?)) (hg : ws.all goodWord = true) : ∀ w ∈ ws, w ∈ lw_all := by
  intro w h
  have h1 := List.all_eq_true.mp hg w h
  rw [hp] at h
  obtain ⟨i, -, hi⟩ := List.mem_filterMap.mp h
  exact lw_w i hi h1
/-- the words of a contract for the method y with code b, L locals, answer r -/
abbrev ws_ (y : MethodName) (b : ByteArray) (L : Nat) (r : Option FieldType) : List Cond := Cond.code y b L r :: lw_all
theorem lw_meth {y : MethodName} {b : ByteArray} {L : Nat} {r : Option FieldType} (h : Cond.code y b L r ∈ lw_all) : GoodIn lw_all (ws_ y b L r) := by
  intro w hw
  rcases List.mem_cons.mp hw with e | e
  · rw [e]
    exact lw_self _ h
  · exact lw_self _ e
theorem lw_app {a c : List Cond} (ha : ∀ w ∈ a, w ∈ lw_all) (hc : GoodIn lw_all c) : GoodIn lw_all (a ++ c) := by
  intro w hw
  rcases List.mem_append.mp hw with e | e
  · exact lw_self w (ha w e)
  · exact hc w e
/-- what a call through an object asks: cwV n hts (lw_V ..) -/
theorem lw_V {own : String} {idx : Nat} {C : String} {y : MethodName} {b : ByteArray} {L : Nat} {r : Option FieldType} (h1 : Cond.methodLink own idx y ∈ lw_all) (h2 : Cond.instanceMethod y ∈ lw_all) (h3 : Cond.selects C y y ∈ lw_all) (h4 : Cond.initialized C ∈ lw_all) (h5 : Cond.code y b L r ∈ lw_all) : GoodIn lw_all (wsV own idx C y (ws_ y b L r)) := by
  refine lw_app ?_ (lw_meth h5)
  intro w hw
  simp only [List.mem_cons, List.not_mem_nil, or_false] at hw
  rcases hw with e | e | e | e
  · rw [e]; exact h1
  · rw [e]; exact h2
  · rw [e]; exact h3
  · rw [e]; exact h4
/-- what a static call asks: va_cwS n hts (lw_S ..) -/
theorem lw_S {own : String} {idx : Nat} {y : MethodName} {b : ByteArray} {L : Nat} {r : Option FieldType} (h1 : Cond.methodLink own idx y ∈ lw_all) (h2 : Cond.static y ∈ lw_all) (h3 : Cond.initialized y.cls ∈ lw_all) (h4 : Cond.code y b L r ∈ lw_all) : GoodIn lw_all (va_wsS own idx y (ws_ y b L r)) := by
  refine lw_app ?_ (lw_meth h4)
  intro w hw
  simp only [List.mem_cons, List.not_mem_nil, or_false] at hw
  rcases hw with e | e | e
  · rw [e]; exact h1
  · rw [e]; exact h2
  · rw [e]; exact h3
/-- the words of a contract for a method WITH HANDLERS (hh: its table) -/
abbrev wsW_ (y : MethodName) (b : ByteArray) (L : Nat) (r : Option FieldType) (hh : List (Nat × Nat × Nat × Nat)) : List Cond := Cond.codeWith y b L r hh :: lw_all
theorem lw_methW {y : MethodName} {b : ByteArray} {L : Nat} {r : Option FieldType} {hh : List (Nat × Nat × Nat × Nat)} (h : Cond.codeWith y b L r hh ∈ lw_all) : GoodIn lw_all (wsW_ y b L r hh) := by
  intro w hw
  rcases List.mem_cons.mp hw with e | e
  · rw [e]
    exact lw_self _ h
  · exact lw_self _ e
/-- any list of words by their places (lw_in), good -/
theorem lw_good {ws : List Cond} (h : ∀ w ∈ ws, w ∈ lw_all) : GoodIn lw_all ws := fun w hw => lw_self w (h w hw)
/-- what a call of a method with handlers asks: vx_cwVW n hts (lw_VW ..), vx_cwSW n hts (lw_SW ..) -/
theorem lw_VW {own : String} {idx : Nat} {C : String} {y : MethodName} {b : ByteArray} {L : Nat} {r : Option FieldType} {hh : List (Nat × Nat × Nat × Nat)} (h1 : Cond.methodLink own idx y ∈ lw_all) (h2 : Cond.instanceMethod y ∈ lw_all) (h3 : Cond.selects C y y ∈ lw_all) (h4 : Cond.initialized C ∈ lw_all) (h5 : Cond.codeWith y b L r hh ∈ lw_all) : GoodIn lw_all (wsV own idx C y (wsW_ y b L r hh)) := by
  refine lw_app ?_ (lw_methW h5)
  intro w hw
  simp only [List.mem_cons, List.not_mem_nil, or_false] at hw
  rcases hw with e | e | e | e
  · rw [e]; exact h1
  · rw [e]; exact h2
  · rw [e]; exact h3
  · rw [e]; exact h4
theorem lw_SW {own : String} {idx : Nat} {y : MethodName} {b : ByteArray} {L : Nat} {r : Option FieldType} {hh : List (Nat × Nat × Nat × Nat)} (h1 : Cond.methodLink own idx y ∈ lw_all) (h2 : Cond.static y ∈ lw_all) (h3 : Cond.initialized y.cls ∈ lw_all) (h4 : Cond.codeWith y b L r hh ∈ lw_all) : GoodIn lw_all (va_wsS own idx y (wsW_ y b L r hh)) := by
  refine lw_app ?_ (lw_methW h4)
  intro w hw
  simp only [List.mem_cons, List.not_mem_nil, or_false] at hw
  rcases hw with e | e | e
  · rw [e]; exact h1
  · rw [e]; exact h2
  · rw [e]; exact h3
/-- a word by its place in its run of the tables -/
theorem lw_at {r : List Cond} (hr : ∀ w ∈ r, w ∈ lw_tbl) {w : Cond} (i : Nat) (h : r[i]? = some w) : w ∈ lw_tbl := hr w (List.mem_of_getElem? h)
theorem lw_g {w : Cond} (h : w ∈ lw_tbl) (g : goodWord w = true) : w ∈ lw_all := List.mem_filter.mpr ⟨h, g⟩
theorem lw_ms : ∀ w ∈ k2_sels lw_privs, w ∈ lw_tbl := fun w h => show w ∈ k2_sels lw_privs ++ tables_1 from List.mem_append_left _ h
theorem lw_m1 : ∀ w ∈ tables_1_1, w ∈ lw_tbl := fun w h => show w ∈ k2_sels lw_privs ++ tables_1 from List.mem_append_right (k2_sels lw_privs) (show w ∈ tables_1 from List.mem_append_left _ h)
theorem lw_m2 : ∀ w ∈ tables_1_2, w ∈ lw_tbl := fun w h => show w ∈ k2_sels lw_privs ++ tables_1 from List.mem_append_right (k2_sels lw_privs) (show w ∈ tables_1 from List.mem_append_right _ h)
theorem qs0 : (Cond.selects "OlderFirstHeap" ⟨"OlderFirstHeap", "walkFromRoots", "()V"⟩ ⟨"OlderFirstHeap", "walkFromRoots", "()V"⟩) ∈ lw_all := lw_g (lw_at lw_ms 0 rfl) rfl
theorem qs1 : (Cond.selects "OlderFirstHeap" ⟨"OlderFirstHeap", "startWalk", "()V"⟩ ⟨"OlderFirstHeap", "startWalk", "()V"⟩) ∈ lw_all := lw_g (lw_at lw_ms 1 rfl) rfl
theorem qs2 : (Cond.selects "OlderFirstHeap" ⟨"OlderFirstHeap", "visit", "(II)V"⟩ ⟨"OlderFirstHeap", "visit", "(II)V"⟩) ∈ lw_all := lw_g (lw_at lw_ms 2 rfl) rfl
theorem qs3 : (Cond.selects "OlderFirstHeap" ⟨"OlderFirstHeap", "finishWalk", "()V"⟩ ⟨"OlderFirstHeap", "finishWalk", "()V"⟩) ∈ lw_all := lw_g (lw_at lw_ms 3 rfl) rfl
theorem qs4 : (Cond.selects "OlderFirstHeap" ⟨"OlderFirstHeap", "newSlot", "()I"⟩ ⟨"OlderFirstHeap", "newSlot", "()I"⟩) ∈ lw_all := lw_g (lw_at lw_ms 4 rfl) rfl
theorem qs5 : (Cond.selects "OlderFirstHeap" ⟨"OlderFirstHeap", "moveWindow", "()V"⟩ ⟨"OlderFirstHeap", "moveWindow", "()V"⟩) ∈ lw_all := lw_g (lw_at lw_ms 5 rfl) rfl
theorem qs6 : (Cond.selects "OlderFirstHeap" ⟨"OlderFirstHeap", "collectBlock", "(I)V"⟩ ⟨"OlderFirstHeap", "collectBlock", "(I)V"⟩) ∈ lw_all := lw_g (lw_at lw_ms 6 rfl) rfl
theorem qs7 : (Cond.selects "OlderFirstHeap" ⟨"OlderFirstHeap", "within", "(II)Z"⟩ ⟨"OlderFirstHeap", "within", "(II)Z"⟩) ∈ lw_all := lw_g (lw_at lw_ms 7 rfl) rfl
theorem qs8 : (Cond.selects "OlderFirstHeap" ⟨"OlderFirstHeap", "evacuate", "(I)I"⟩ ⟨"OlderFirstHeap", "evacuate", "(I)I"⟩) ∈ lw_all := lw_g (lw_at lw_ms 8 rfl) rfl
theorem qs9 : (Cond.selects "OlderFirstHeap" ⟨"OlderFirstHeap", "bump", "()I"⟩ ⟨"OlderFirstHeap", "bump", "()I"⟩) ∈ lw_all := lw_g (lw_at lw_ms 9 rfl) rfl
theorem qs10 : (Cond.selects "OlderFirstHeap" ⟨"OlderFirstHeap", "openBlock", "()V"⟩ ⟨"OlderFirstHeap", "openBlock", "()V"⟩) ∈ lw_all := lw_g (lw_at lw_ms 10 rfl) rfl
theorem qs11 : (Cond.selects "OlderFirstHeap" ⟨"OlderFirstHeap", "inUse", "(I)Z"⟩ ⟨"OlderFirstHeap", "inUse", "(I)Z"⟩) ∈ lw_all := lw_g (lw_at lw_ms 11 rfl) rfl
theorem qs12 : (Cond.selects "OlderFirstHeap" ⟨"OlderFirstHeap", "youngest", "()I"⟩ ⟨"OlderFirstHeap", "youngest", "()I"⟩) ∈ lw_all := lw_g (lw_at lw_ms 12 rfl) rfl
theorem qs13 : (Cond.selects "OlderFirstHeap" ⟨"OlderFirstHeap", "fixFields", "(II)V"⟩ ⟨"OlderFirstHeap", "fixFields", "(II)V"⟩) ∈ lw_all := lw_g (lw_at lw_ms 13 rfl) rfl
theorem qs14 : (Cond.selects "OlderFirstHeap" ⟨"OlderFirstHeap", "remember", "(II)V"⟩ ⟨"OlderFirstHeap", "remember", "(II)V"⟩) ∈ lw_all := lw_g (lw_at lw_ms 14 rfl) rfl
theorem qs15 : (Cond.selects "OlderFirstHeap" ⟨"OlderFirstHeap", "freeBlock", "(I)V"⟩ ⟨"OlderFirstHeap", "freeBlock", "(I)V"⟩) ∈ lw_all := lw_g (lw_at lw_ms 15 rfl) rfl
theorem qs16 : (Cond.selects "OlderFirstHeap" ⟨"OlderFirstHeap", "collectAll", "()V"⟩ ⟨"OlderFirstHeap", "collectAll", "()V"⟩) ∈ lw_all := lw_g (lw_at lw_ms 16 rfl) rfl
theorem qs17 : (Cond.selects "OlderFirstHeap" ⟨"OlderFirstHeap", "moved", "(I)I"⟩ ⟨"OlderFirstHeap", "moved", "(I)I"⟩) ∈ lw_all := lw_g (lw_at lw_ms 17 rfl) rfl
theorem qs18 : (Cond.selects "OlderFirstHeap" ⟨"OlderFirstHeap", "layOut", "(I)V"⟩ ⟨"OlderFirstHeap", "layOut", "(I)V"⟩) ∈ lw_all := lw_g (lw_at lw_ms 18 rfl) rfl
theorem qs19 : (Cond.selects "OlderFirstHeap" ⟨"OlderFirstHeap", "empty", "(I)Z"⟩ ⟨"OlderFirstHeap", "empty", "(I)Z"⟩) ∈ lw_all := lw_g (lw_at lw_ms 19 rfl) rfl
theorem qs20 : (Cond.selects "OlderFirstHeapModel" ⟨"OlderFirstHeapModel", "isRoot", "(I)Z"⟩ ⟨"OlderFirstHeapModel", "isRoot", "(I)Z"⟩) ∈ lw_all := lw_g (lw_at lw_ms 20 rfl) rfl
theorem qs21 : (Cond.selects "OlderFirstHeapModel" ⟨"OlderFirstHeapModel", "spread", "(I)V"⟩ ⟨"OlderFirstHeapModel", "spread", "(I)V"⟩) ∈ lw_all := lw_g (lw_at lw_ms 21 rfl) rfl
theorem qs22 : (Cond.selects "OlderFirstHeapModel" ⟨"OlderFirstHeapModel", "found", "()I"⟩ ⟨"OlderFirstHeapModel", "found", "()I"⟩) ∈ lw_all := lw_g (lw_at lw_ms 22 rfl) rfl
theorem qs23 : (Cond.selects "OlderFirstHeapModel" ⟨"OlderFirstHeapModel", "refusal", "(III)I"⟩ ⟨"OlderFirstHeapModel", "refusal", "(III)I"⟩) ∈ lw_all := lw_g (lw_at lw_ms 23 rfl) rfl
theorem qs24 : (Cond.selects "OlderFirstHeapModel" ⟨"OlderFirstHeapModel", "objectOf", "(I)I"⟩ ⟨"OlderFirstHeapModel", "objectOf", "(I)I"⟩) ∈ lw_all := lw_g (lw_at lw_ms 24 rfl) rfl
end
section
set_option maxRecDepth 100000
def RJ0 : String := "java/lang/Object"
abbrev cJ0_init : ByteArray := object_method_1_code
def yJ0_init : MethodName := ⟨RJ0, "<init>", "()V"⟩
theorem q34 : (Jvm.Cond.instanceMethod ({ cls := "java/lang/Object", name := "<init>", desc := "()V" } : Jvm.MethodName)) ∈ lw_all := lw_g (lw_at lw_m1 9 rfl) rfl
theorem q35 : (Jvm.Cond.code ({ cls := "java/lang/Object", name := "<init>", desc := "()V" } : Jvm.MethodName) object_method_1_code (1 : Nat) (Option.none : Option Jvm.ClassFile.FieldType)) ∈ lw_all := lw_g (lw_at lw_m1 10 rfl) rfl
def RX0 : String := "OlderFirstHeapLaw"
abbrev cX0_cell : ByteArray := method_2_code
def yX0_cell : MethodName := ⟨RX0, "cell", "([II)I"⟩
theorem q25 : (Jvm.Cond.initialized "OlderFirstHeapLaw") ∈ lw_all := lw_g (lw_at lw_m1 0 rfl) rfl
theorem q28 : (Jvm.Cond.classLink "OlderFirstHeapLaw" (7 : Nat) "OlderFirstHeap") ∈ lw_all := lw_g (lw_at lw_m1 3 rfl) rfl
theorem q30 : (Jvm.Cond.methodLink "OlderFirstHeapLaw" (15 : Nat) ({ cls := "OlderFirstHeap", name := "<init>", desc := "(I)V" } : Jvm.MethodName)) ∈ lw_all := lw_g (lw_at lw_m1 5 rfl) rfl
theorem q94 : (Jvm.Cond.methodLink "OlderFirstHeapLaw" (21 : Nat) ({ cls := "OlderFirstHeap", name := "make", desc := "(II)I" } : Jvm.MethodName)) ∈ lw_all := lw_g (lw_at lw_m1 69 rfl) rfl
theorem q179 : (Jvm.Cond.methodLink "OlderFirstHeapLaw" (26 : Nat) ({ cls := "OlderFirstHeap", name := "copyRoot", desc := "(II)I" } : Jvm.MethodName)) ∈ lw_all := lw_g (lw_at lw_m1 154 rfl) rfl
theorem q183 : (Jvm.Cond.methodLink "OlderFirstHeapLaw" (30 : Nat) ({ cls := "OlderFirstHeap", name := "drop", desc := "(I)I" } : Jvm.MethodName)) ∈ lw_all := lw_g (lw_at lw_m1 158 rfl) rfl
theorem q187 : (Jvm.Cond.methodLink "OlderFirstHeapLaw" (35 : Nat) ({ cls := "OlderFirstHeap", name := "load", desc := "(III)I" } : Jvm.MethodName)) ∈ lw_all := lw_g (lw_at lw_m1 162 rfl) rfl
theorem q194 : (Jvm.Cond.methodLink "OlderFirstHeapLaw" (40 : Nat) ({ cls := "OlderFirstHeap", name := "store", desc := "(III)I" } : Jvm.MethodName)) ∈ lw_all := lw_g (lw_at lw_m1 169 rfl) rfl
theorem q198 : (Jvm.Cond.methodLink "OlderFirstHeapLaw" (44 : Nat) ({ cls := "OlderFirstHeap", name := "setPayload", desc := "(II)I" } : Jvm.MethodName)) ∈ lw_all := lw_g (lw_at lw_m1 173 rfl) rfl
theorem q202 : (Jvm.Cond.methodLink "OlderFirstHeapLaw" (48 : Nat) ({ cls := "OlderFirstHeap", name := "collect", desc := "()V" } : Jvm.MethodName)) ∈ lw_all := lw_g (lw_at lw_m1 177 rfl) rfl
theorem q206 : (Jvm.Cond.methodLink "OlderFirstHeapLaw" (52 : Nat) ({ cls := "OlderFirstHeap", name := "payload", desc := "(I)I" } : Jvm.MethodName)) ∈ lw_all := lw_g (lw_at lw_m1 181 rfl) rfl
theorem q214 : (Jvm.Cond.methodLink "OlderFirstHeapLaw" (56 : Nat) ({ cls := "OlderFirstHeap", name := "held", desc := "(I)Z" } : Jvm.MethodName)) ∈ lw_all := lw_g (lw_at lw_m1 189 rfl) rfl
theorem q218 : (Jvm.Cond.methodLink "OlderFirstHeapLaw" (61 : Nat) ({ cls := "OlderFirstHeap", name := "same", desc := "(II)Z" } : Jvm.MethodName)) ∈ lw_all := lw_g (lw_at lw_m1 193 rfl) rfl
theorem q222 : (Jvm.Cond.methodLink "OlderFirstHeapLaw" (66 : Nat) ({ cls := "OlderFirstHeap", name := "reachable", desc := "()I" } : Jvm.MethodName)) ∈ lw_all := lw_g (lw_at lw_m1 197 rfl) rfl
theorem q226 : (Jvm.Cond.methodLink "OlderFirstHeapLaw" (71 : Nat) ({ cls := "OlderFirstHeap", name := "reachableFrom", desc := "(I)I" } : Jvm.MethodName)) ∈ lw_all := lw_g (lw_at lw_m1 201 rfl) rfl
theorem q230 : (Jvm.Cond.methodLink "OlderFirstHeapLaw" (75 : Nat) ({ cls := "OlderFirstHeap", name := "distance", desc := "(II)I" } : Jvm.MethodName)) ∈ lw_all := lw_g (lw_at lw_m1 205 rfl) rfl
theorem q234 : (Jvm.Cond.methodLink "OlderFirstHeapLaw" (79 : Nat) ({ cls := "OlderFirstHeap", name := "sum", desc := "()I" } : Jvm.MethodName)) ∈ lw_all := lw_g (lw_at lw_m1 209 rfl) rfl
theorem q238 : (Jvm.Cond.methodLink "OlderFirstHeapLaw" (9 : Nat) ({ cls := "OlderFirstHeapLaw", name := "cell", desc := "([II)I" } : Jvm.MethodName)) ∈ lw_all := lw_g (lw_at lw_m1 213 rfl) rfl
theorem q239 : (Jvm.Cond.static ({ cls := "OlderFirstHeapLaw", name := "cell", desc := "([II)I" } : Jvm.MethodName)) ∈ lw_all := lw_g (lw_at lw_m1 214 rfl) rfl
theorem q240 : (Jvm.Cond.code ({ cls := "OlderFirstHeapLaw", name := "cell", desc := "([II)I" } : Jvm.MethodName) method_2_code (2 : Nat) (Option.some Jvm.ClassFile.FieldType.int)) ∈ lw_all := lw_g (lw_at lw_m1 215 rfl) rfl
theorem q241 : (Jvm.Cond.classLink "OlderFirstHeapLaw" (18 : Nat) "OlderFirstHeapModel") ∈ lw_all := lw_g (lw_at lw_m1 216 rfl) rfl
theorem q243 : (Jvm.Cond.methodLink "OlderFirstHeapLaw" (20 : Nat) ({ cls := "OlderFirstHeapModel", name := "<init>", desc := "(I)V" } : Jvm.MethodName)) ∈ lw_all := lw_g (lw_at lw_m1 218 rfl) rfl
theorem q260 : (Jvm.Cond.methodLink "OlderFirstHeapLaw" (25 : Nat) ({ cls := "OlderFirstHeapModel", name := "make", desc := "(II)I" } : Jvm.MethodName)) ∈ lw_all := lw_g (lw_at lw_m1 235 rfl) rfl
theorem q280 : (Jvm.Cond.methodLink "OlderFirstHeapLaw" (29 : Nat) ({ cls := "OlderFirstHeapModel", name := "copyRoot", desc := "(II)I" } : Jvm.MethodName)) ∈ lw_all := lw_g (lw_at lw_m2 15 rfl) rfl
theorem q284 : (Jvm.Cond.methodLink "OlderFirstHeapLaw" (34 : Nat) ({ cls := "OlderFirstHeapModel", name := "drop", desc := "(I)I" } : Jvm.MethodName)) ∈ lw_all := lw_g (lw_at lw_m2 19 rfl) rfl
theorem q288 : (Jvm.Cond.methodLink "OlderFirstHeapLaw" (39 : Nat) ({ cls := "OlderFirstHeapModel", name := "load", desc := "(III)I" } : Jvm.MethodName)) ∈ lw_all := lw_g (lw_at lw_m2 23 rfl) rfl
theorem q296 : (Jvm.Cond.methodLink "OlderFirstHeapLaw" (43 : Nat) ({ cls := "OlderFirstHeapModel", name := "store", desc := "(III)I" } : Jvm.MethodName)) ∈ lw_all := lw_g (lw_at lw_m2 31 rfl) rfl
theorem q300 : (Jvm.Cond.methodLink "OlderFirstHeapLaw" (47 : Nat) ({ cls := "OlderFirstHeapModel", name := "setPayload", desc := "(II)I" } : Jvm.MethodName)) ∈ lw_all := lw_g (lw_at lw_m2 35 rfl) rfl
theorem q304 : (Jvm.Cond.methodLink "OlderFirstHeapLaw" (51 : Nat) ({ cls := "OlderFirstHeapModel", name := "collect", desc := "()V" } : Jvm.MethodName)) ∈ lw_all := lw_g (lw_at lw_m2 39 rfl) rfl
theorem q308 : (Jvm.Cond.methodLink "OlderFirstHeapLaw" (55 : Nat) ({ cls := "OlderFirstHeapModel", name := "payload", desc := "(I)I" } : Jvm.MethodName)) ∈ lw_all := lw_g (lw_at lw_m2 43 rfl) rfl
theorem q316 : (Jvm.Cond.methodLink "OlderFirstHeapLaw" (60 : Nat) ({ cls := "OlderFirstHeapModel", name := "held", desc := "(I)Z" } : Jvm.MethodName)) ∈ lw_all := lw_g (lw_at lw_m2 51 rfl) rfl
theorem q320 : (Jvm.Cond.methodLink "OlderFirstHeapLaw" (65 : Nat) ({ cls := "OlderFirstHeapModel", name := "same", desc := "(II)Z" } : Jvm.MethodName)) ∈ lw_all := lw_g (lw_at lw_m2 55 rfl) rfl
theorem q325 : (Jvm.Cond.methodLink "OlderFirstHeapLaw" (70 : Nat) ({ cls := "OlderFirstHeapModel", name := "reachable", desc := "()I" } : Jvm.MethodName)) ∈ lw_all := lw_g (lw_at lw_m2 60 rfl) rfl
theorem q326 : (Jvm.Cond.methodLink "OlderFirstHeapLaw" (74 : Nat) ({ cls := "OlderFirstHeapModel", name := "reachableFrom", desc := "(I)I" } : Jvm.MethodName)) ∈ lw_all := lw_g (lw_at lw_m2 61 rfl) rfl
theorem q330 : (Jvm.Cond.methodLink "OlderFirstHeapLaw" (78 : Nat) ({ cls := "OlderFirstHeapModel", name := "distance", desc := "(II)I" } : Jvm.MethodName)) ∈ lw_all := lw_g (lw_at lw_m2 65 rfl) rfl
theorem q334 : (Jvm.Cond.methodLink "OlderFirstHeapLaw" (82 : Nat) ({ cls := "OlderFirstHeapModel", name := "sum", desc := "()I" } : Jvm.MethodName)) ∈ lw_all := lw_g (lw_at lw_m2 69 rfl) rfl
def RX1 : String := "OlderFirstHeap"
def TX1 : u_T := fun k => match k with
  | 0 => ("OlderFirstHeap", "step", "I", true)
  | 1 => ("OlderFirstHeap", "root", "[I", true)
  | 2 => ("OlderFirstHeap", "used", "[Z", true)
  | 3 => ("OlderFirstHeap", "payloads", "[I", true)
  | 4 => ("OlderFirstHeap", "fields", "[I", true)
  | 5 => ("OlderFirstHeap", "blocks", "I", false)
  | 6 => ("OlderFirstHeap", "order", "[I", true)
  | 7 => ("OlderFirstHeap", "window", "I", false)
  | 8 => ("OlderFirstHeap", "filled", "I", false)
  | 9 => ("OlderFirstHeap", "remembered", "[J", true)
  | 10 => ("OlderFirstHeap", "forward", "[I", true)
  | 11 => ("OlderFirstHeap", "copies", "I", false)
  | 12 => ("OlderFirstHeap", "copied", "[I", true)
  | 13 => ("OlderFirstHeap", "seen", "[I", true)
  | 14 => ("OlderFirstHeap", "queue", "[I", true)
  | 15 => ("OlderFirstHeap", "queued", "I", false)
  | 16 => ("OlderFirstHeap", "asidePayload", "[I", true)
  | _ => ("OlderFirstHeap", "asideField", "[I", true)
def tyX1 : Nat → FieldType := fun k => match k with
  | 0 => .int
  | 1 => .array .int
  | 2 => .array .boolean
  | 3 => .array .int
  | 4 => .array .int
  | 5 => .int
  | 6 => .array .int
  | 7 => .int
  | 8 => .int
  | 9 => .array .long
  | 10 => .array .int
  | 11 => .int
  | 12 => .array .int
  | 13 => .array .int
  | 14 => .array .int
  | 15 => .int
  | 16 => .array .int
  | _ => .array .int
abbrev wsX10 : List Cond := u_ws RX1 TX1 18
set_option maxRecDepth 100000 in
theorem nmX1 : ∀ a, a < 18 → ∀ b, b < 18 → a ≠ b → (TX1 a).2.1 ≠ (TX1 b).2.1 := by decide +kernel
set_option maxRecDepth 100000 in
theorem tyX1_ok : ∀ k, k < 18 → parseFieldDescriptor (TX1 k).2.2.1 = some (tyX1 k) := by decide +kernel
abbrev cX1_init : ByteArray := prog_1_method_1_code
def yX1_init : MethodName := ⟨RX1, "<init>", "(I)V"⟩
abbrev cX1_make : ByteArray := prog_1_method_23_code
def yX1_make : MethodName := ⟨RX1, "make", "(II)I"⟩
abbrev cX1_badRoot : ByteArray := prog_1_method_2_code
def yX1_badRoot : MethodName := ⟨RX1, "badRoot", "(I)Z"⟩
abbrev cX1_walkFromRoots : ByteArray := prog_1_method_7_code
def yX1_walkFromRoots : MethodName := ⟨RX1, "walkFromRoots", "()V"⟩
abbrev cX1_startWalk : ByteArray := prog_1_method_4_code
def yX1_startWalk : MethodName := ⟨RX1, "startWalk", "()V"⟩
abbrev cX1_visit : ByteArray := prog_1_method_5_code
def yX1_visit : MethodName := ⟨RX1, "visit", "(II)V"⟩
abbrev cX1_finishWalk : ByteArray := prog_1_method_6_code
def yX1_finishWalk : MethodName := ⟨RX1, "finishWalk", "()V"⟩
abbrev cX1_newSlot : ByteArray := prog_1_method_22_code
def yX1_newSlot : MethodName := ⟨RX1, "newSlot", "()I"⟩
abbrev cX1_moveWindow : ByteArray := prog_1_method_18_code
def yX1_moveWindow : MethodName := ⟨RX1, "moveWindow", "()V"⟩
abbrev cX1_collectBlock : ByteArray := prog_1_method_16_code
def yX1_collectBlock : MethodName := ⟨RX1, "collectBlock", "(I)V"⟩
abbrev cX1_within : ByteArray := prog_1_method_13_code
def yX1_within : MethodName := ⟨RX1, "within", "(II)Z"⟩
abbrev cX1_evacuate : ByteArray := prog_1_method_14_code
def yX1_evacuate : MethodName := ⟨RX1, "evacuate", "(I)I"⟩
abbrev cX1_bump : ByteArray := prog_1_method_11_code
def yX1_bump : MethodName := ⟨RX1, "bump", "()I"⟩
abbrev cX1_openBlock : ByteArray := prog_1_method_10_code
def yX1_openBlock : MethodName := ⟨RX1, "openBlock", "()V"⟩
abbrev cX1_inUse : ByteArray := prog_1_method_9_code
def yX1_inUse : MethodName := ⟨RX1, "inUse", "(I)Z"⟩
abbrev cX1_youngest : ByteArray := prog_1_method_8_code
def yX1_youngest : MethodName := ⟨RX1, "youngest", "()I"⟩
abbrev cX1_fixFields : ByteArray := prog_1_method_15_code
def yX1_fixFields : MethodName := ⟨RX1, "fixFields", "(II)V"⟩
abbrev cX1_remember : ByteArray := prog_1_method_12_code
def yX1_remember : MethodName := ⟨RX1, "remember", "(II)V"⟩
abbrev cX1_freeBlock : ByteArray := prog_1_method_17_code
def yX1_freeBlock : MethodName := ⟨RX1, "freeBlock", "(I)V"⟩
abbrev cX1_collectAll : ByteArray := prog_1_method_19_code
def yX1_collectAll : MethodName := ⟨RX1, "collectAll", "()V"⟩
abbrev cX1_moved : ByteArray := prog_1_method_20_code
def yX1_moved : MethodName := ⟨RX1, "moved", "(I)I"⟩
abbrev cX1_layOut : ByteArray := prog_1_method_21_code
def yX1_layOut : MethodName := ⟨RX1, "layOut", "(I)V"⟩
abbrev cX1_copyRoot : ByteArray := prog_1_method_24_code
def yX1_copyRoot : MethodName := ⟨RX1, "copyRoot", "(II)I"⟩
abbrev cX1_drop : ByteArray := prog_1_method_25_code
def yX1_drop : MethodName := ⟨RX1, "drop", "(I)I"⟩
abbrev cX1_load : ByteArray := prog_1_method_26_code
def yX1_load : MethodName := ⟨RX1, "load", "(III)I"⟩
abbrev cX1_badField : ByteArray := prog_1_method_3_code
def yX1_badField : MethodName := ⟨RX1, "badField", "(I)Z"⟩
abbrev cX1_store : ByteArray := prog_1_method_27_code
def yX1_store : MethodName := ⟨RX1, "store", "(III)I"⟩
abbrev cX1_setPayload : ByteArray := prog_1_method_28_code
def yX1_setPayload : MethodName := ⟨RX1, "setPayload", "(II)I"⟩
abbrev cX1_collect : ByteArray := prog_1_method_29_code
def yX1_collect : MethodName := ⟨RX1, "collect", "()V"⟩
abbrev cX1_payload : ByteArray := prog_1_method_31_code
def yX1_payload : MethodName := ⟨RX1, "payload", "(I)I"⟩
abbrev cX1_empty : ByteArray := prog_1_method_30_code
def yX1_empty : MethodName := ⟨RX1, "empty", "(I)Z"⟩
abbrev cX1_held : ByteArray := prog_1_method_32_code
def yX1_held : MethodName := ⟨RX1, "held", "(I)Z"⟩
abbrev cX1_same : ByteArray := prog_1_method_33_code
def yX1_same : MethodName := ⟨RX1, "same", "(II)Z"⟩
abbrev cX1_reachable : ByteArray := prog_1_method_34_code
def yX1_reachable : MethodName := ⟨RX1, "reachable", "()I"⟩
abbrev cX1_reachableFrom : ByteArray := prog_1_method_35_code
def yX1_reachableFrom : MethodName := ⟨RX1, "reachableFrom", "(I)I"⟩
abbrev cX1_distance : ByteArray := prog_1_method_36_code
def yX1_distance : MethodName := ⟨RX1, "distance", "(II)I"⟩
abbrev cX1_sum : ByteArray := prog_1_method_37_code
def yX1_sum : MethodName := ⟨RX1, "sum", "()I"⟩
theorem q26 : (Jvm.Cond.initialized "OlderFirstHeap") ∈ lw_all := lw_g (lw_at lw_m1 1 rfl) rfl
theorem q29 : (Jvm.Cond.instantiable "OlderFirstHeap" (18 : Nat)) ∈ lw_all := lw_g (lw_at lw_m1 4 rfl) rfl
theorem q31 : (Jvm.Cond.instanceMethod ({ cls := "OlderFirstHeap", name := "<init>", desc := "(I)V" } : Jvm.MethodName)) ∈ lw_all := lw_g (lw_at lw_m1 6 rfl) rfl
theorem q32 : (Jvm.Cond.code ({ cls := "OlderFirstHeap", name := "<init>", desc := "(I)V" } : Jvm.MethodName) prog_1_method_1_code (3 : Nat) (Option.none : Option Jvm.ClassFile.FieldType)) ∈ lw_all := lw_g (lw_at lw_m1 7 rfl) rfl
theorem q33 : (Jvm.Cond.methodLink "OlderFirstHeap" (1 : Nat) ({ cls := "java/lang/Object", name := "<init>", desc := "()V" } : Jvm.MethodName)) ∈ lw_all := lw_g (lw_at lw_m1 8 rfl) rfl
theorem q36 : (Jvm.Cond.fieldLink "OlderFirstHeap" (48 : Nat) "OlderFirstHeap" "step" "I") ∈ lw_all := lw_g (lw_at lw_m1 11 rfl) rfl
theorem q37 : (Jvm.Cond.fieldLink "OlderFirstHeap" (7 : Nat) "OlderFirstHeap" "root" "[I") ∈ lw_all := lw_g (lw_at lw_m1 12 rfl) rfl
theorem q38 : (Jvm.Cond.fieldLink "OlderFirstHeap" (13 : Nat) "OlderFirstHeap" "used" "[Z") ∈ lw_all := lw_g (lw_at lw_m1 13 rfl) rfl
theorem q39 : (Jvm.Cond.fieldLink "OlderFirstHeap" (17 : Nat) "OlderFirstHeap" "payloads" "[I") ∈ lw_all := lw_g (lw_at lw_m1 14 rfl) rfl
theorem q40 : (Jvm.Cond.fieldLink "OlderFirstHeap" (20 : Nat) "OlderFirstHeap" "fields" "[I") ∈ lw_all := lw_g (lw_at lw_m1 15 rfl) rfl
theorem q41 : (Jvm.Cond.fieldLink "OlderFirstHeap" (52 : Nat) "OlderFirstHeap" "blocks" "I") ∈ lw_all := lw_g (lw_at lw_m1 16 rfl) rfl
theorem q42 : (Jvm.Cond.fieldLink "OlderFirstHeap" (23 : Nat) "OlderFirstHeap" "order" "[I") ∈ lw_all := lw_g (lw_at lw_m1 17 rfl) rfl
theorem q43 : (Jvm.Cond.fieldLink "OlderFirstHeap" (110 : Nat) "OlderFirstHeap" "window" "I") ∈ lw_all := lw_g (lw_at lw_m1 18 rfl) rfl
theorem q44 : (Jvm.Cond.fieldLink "OlderFirstHeap" (72 : Nat) "OlderFirstHeap" "filled" "I") ∈ lw_all := lw_g (lw_at lw_m1 19 rfl) rfl
theorem q45 : (Jvm.Cond.fieldLink "OlderFirstHeap" (26 : Nat) "OlderFirstHeap" "remembered" "[J") ∈ lw_all := lw_g (lw_at lw_m1 20 rfl) rfl
theorem q46 : (Jvm.Cond.fieldLink "OlderFirstHeap" (30 : Nat) "OlderFirstHeap" "forward" "[I") ∈ lw_all := lw_g (lw_at lw_m1 21 rfl) rfl
theorem q47 : (Jvm.Cond.fieldLink "OlderFirstHeap" (85 : Nat) "OlderFirstHeap" "copies" "I") ∈ lw_all := lw_g (lw_at lw_m1 22 rfl) rfl
theorem q48 : (Jvm.Cond.fieldLink "OlderFirstHeap" (33 : Nat) "OlderFirstHeap" "copied" "[I") ∈ lw_all := lw_g (lw_at lw_m1 23 rfl) rfl
theorem q49 : (Jvm.Cond.fieldLink "OlderFirstHeap" (36 : Nat) "OlderFirstHeap" "seen" "[I") ∈ lw_all := lw_g (lw_at lw_m1 24 rfl) rfl
theorem q50 : (Jvm.Cond.fieldLink "OlderFirstHeap" (39 : Nat) "OlderFirstHeap" "queue" "[I") ∈ lw_all := lw_g (lw_at lw_m1 25 rfl) rfl
theorem q51 : (Jvm.Cond.fieldLink "OlderFirstHeap" (55 : Nat) "OlderFirstHeap" "queued" "I") ∈ lw_all := lw_g (lw_at lw_m1 26 rfl) rfl
theorem q52 : (Jvm.Cond.fieldLink "OlderFirstHeap" (42 : Nat) "OlderFirstHeap" "asidePayload" "[I") ∈ lw_all := lw_g (lw_at lw_m1 27 rfl) rfl
theorem q53 : (Jvm.Cond.fieldLink "OlderFirstHeap" (45 : Nat) "OlderFirstHeap" "asideField" "[I") ∈ lw_all := lw_g (lw_at lw_m1 28 rfl) rfl
theorem q54 : (Jvm.Cond.laysFinal "OlderFirstHeap" "OlderFirstHeap" "step" "I") ∈ lw_all := lw_g (lw_at lw_m1 29 rfl) rfl
theorem q55 : (Jvm.Cond.soleField "OlderFirstHeap" "step") ∈ lw_all := lw_g (lw_at lw_m1 30 rfl) rfl
theorem q56 : (Jvm.Cond.laysFinal "OlderFirstHeap" "OlderFirstHeap" "root" "[I") ∈ lw_all := lw_g (lw_at lw_m1 31 rfl) rfl
theorem q57 : (Jvm.Cond.soleField "OlderFirstHeap" "root") ∈ lw_all := lw_g (lw_at lw_m1 32 rfl) rfl
theorem q58 : (Jvm.Cond.laysFinal "OlderFirstHeap" "OlderFirstHeap" "used" "[Z") ∈ lw_all := lw_g (lw_at lw_m1 33 rfl) rfl
theorem q59 : (Jvm.Cond.soleField "OlderFirstHeap" "used") ∈ lw_all := lw_g (lw_at lw_m1 34 rfl) rfl
theorem q60 : (Jvm.Cond.laysFinal "OlderFirstHeap" "OlderFirstHeap" "payloads" "[I") ∈ lw_all := lw_g (lw_at lw_m1 35 rfl) rfl
theorem q61 : (Jvm.Cond.soleField "OlderFirstHeap" "payloads") ∈ lw_all := lw_g (lw_at lw_m1 36 rfl) rfl
theorem q62 : (Jvm.Cond.laysFinal "OlderFirstHeap" "OlderFirstHeap" "fields" "[I") ∈ lw_all := lw_g (lw_at lw_m1 37 rfl) rfl
theorem q63 : (Jvm.Cond.soleField "OlderFirstHeap" "fields") ∈ lw_all := lw_g (lw_at lw_m1 38 rfl) rfl
theorem q64 : (Jvm.Cond.lays "OlderFirstHeap" "OlderFirstHeap" "blocks" "I") ∈ lw_all := lw_g (lw_at lw_m1 39 rfl) rfl
theorem q65 : (Jvm.Cond.soleField "OlderFirstHeap" "blocks") ∈ lw_all := lw_g (lw_at lw_m1 40 rfl) rfl
theorem q66 : (Jvm.Cond.laysFinal "OlderFirstHeap" "OlderFirstHeap" "order" "[I") ∈ lw_all := lw_g (lw_at lw_m1 41 rfl) rfl
theorem q67 : (Jvm.Cond.soleField "OlderFirstHeap" "order") ∈ lw_all := lw_g (lw_at lw_m1 42 rfl) rfl
theorem q68 : (Jvm.Cond.lays "OlderFirstHeap" "OlderFirstHeap" "window" "I") ∈ lw_all := lw_g (lw_at lw_m1 43 rfl) rfl
theorem q69 : (Jvm.Cond.soleField "OlderFirstHeap" "window") ∈ lw_all := lw_g (lw_at lw_m1 44 rfl) rfl
theorem q70 : (Jvm.Cond.lays "OlderFirstHeap" "OlderFirstHeap" "filled" "I") ∈ lw_all := lw_g (lw_at lw_m1 45 rfl) rfl
theorem q71 : (Jvm.Cond.soleField "OlderFirstHeap" "filled") ∈ lw_all := lw_g (lw_at lw_m1 46 rfl) rfl
theorem q72 : (Jvm.Cond.laysFinal "OlderFirstHeap" "OlderFirstHeap" "remembered" "[J") ∈ lw_all := lw_g (lw_at lw_m1 47 rfl) rfl
theorem q73 : (Jvm.Cond.soleField "OlderFirstHeap" "remembered") ∈ lw_all := lw_g (lw_at lw_m1 48 rfl) rfl
theorem q74 : (Jvm.Cond.laysFinal "OlderFirstHeap" "OlderFirstHeap" "forward" "[I") ∈ lw_all := lw_g (lw_at lw_m1 49 rfl) rfl
theorem q75 : (Jvm.Cond.soleField "OlderFirstHeap" "forward") ∈ lw_all := lw_g (lw_at lw_m1 50 rfl) rfl
theorem q76 : (Jvm.Cond.lays "OlderFirstHeap" "OlderFirstHeap" "copies" "I") ∈ lw_all := lw_g (lw_at lw_m1 51 rfl) rfl
theorem q77 : (Jvm.Cond.soleField "OlderFirstHeap" "copies") ∈ lw_all := lw_g (lw_at lw_m1 52 rfl) rfl
theorem q78 : (Jvm.Cond.laysFinal "OlderFirstHeap" "OlderFirstHeap" "copied" "[I") ∈ lw_all := lw_g (lw_at lw_m1 53 rfl) rfl
theorem q79 : (Jvm.Cond.soleField "OlderFirstHeap" "copied") ∈ lw_all := lw_g (lw_at lw_m1 54 rfl) rfl
theorem q80 : (Jvm.Cond.laysFinal "OlderFirstHeap" "OlderFirstHeap" "seen" "[I") ∈ lw_all := lw_g (lw_at lw_m1 55 rfl) rfl
theorem q81 : (Jvm.Cond.soleField "OlderFirstHeap" "seen") ∈ lw_all := lw_g (lw_at lw_m1 56 rfl) rfl
theorem q82 : (Jvm.Cond.laysFinal "OlderFirstHeap" "OlderFirstHeap" "queue" "[I") ∈ lw_all := lw_g (lw_at lw_m1 57 rfl) rfl
theorem q83 : (Jvm.Cond.soleField "OlderFirstHeap" "queue") ∈ lw_all := lw_g (lw_at lw_m1 58 rfl) rfl
theorem q84 : (Jvm.Cond.lays "OlderFirstHeap" "OlderFirstHeap" "queued" "I") ∈ lw_all := lw_g (lw_at lw_m1 59 rfl) rfl
theorem q85 : (Jvm.Cond.soleField "OlderFirstHeap" "queued") ∈ lw_all := lw_g (lw_at lw_m1 60 rfl) rfl
theorem q86 : (Jvm.Cond.laysFinal "OlderFirstHeap" "OlderFirstHeap" "asidePayload" "[I") ∈ lw_all := lw_g (lw_at lw_m1 61 rfl) rfl
theorem q87 : (Jvm.Cond.soleField "OlderFirstHeap" "asidePayload") ∈ lw_all := lw_g (lw_at lw_m1 62 rfl) rfl
theorem q88 : (Jvm.Cond.laysFinal "OlderFirstHeap" "OlderFirstHeap" "asideField" "[I") ∈ lw_all := lw_g (lw_at lw_m1 63 rfl) rfl
theorem q89 : (Jvm.Cond.soleField "OlderFirstHeap" "asideField") ∈ lw_all := lw_g (lw_at lw_m1 64 rfl) rfl
theorem q90 : (Jvm.Cond.superclass "OlderFirstHeap" "java/lang/Object") ∈ lw_all := lw_g (lw_at lw_m1 65 rfl) rfl
theorem q95 : (Jvm.Cond.instanceMethod ({ cls := "OlderFirstHeap", name := "make", desc := "(II)I" } : Jvm.MethodName)) ∈ lw_all := lw_g (lw_at lw_m1 70 rfl) rfl
theorem q96 : (Jvm.Cond.selects "OlderFirstHeap" ({ cls := "OlderFirstHeap", name := "make", desc := "(II)I" } : Jvm.MethodName) ({ cls := "OlderFirstHeap", name := "make", desc := "(II)I" } : Jvm.MethodName)) ∈ lw_all := lw_g (lw_at lw_m1 71 rfl) rfl
theorem q97 : (Jvm.Cond.code ({ cls := "OlderFirstHeap", name := "make", desc := "(II)I" } : Jvm.MethodName) prog_1_method_23_code (5 : Nat) (Option.some Jvm.ClassFile.FieldType.int)) ∈ lw_all := lw_g (lw_at lw_m1 72 rfl) rfl
theorem q98 : (Jvm.Cond.methodLink "OlderFirstHeap" (131 : Nat) ({ cls := "OlderFirstHeap", name := "badRoot", desc := "(I)Z" } : Jvm.MethodName)) ∈ lw_all := lw_g (lw_at lw_m1 73 rfl) rfl
theorem q99 : (Jvm.Cond.static ({ cls := "OlderFirstHeap", name := "badRoot", desc := "(I)Z" } : Jvm.MethodName)) ∈ lw_all := lw_g (lw_at lw_m1 74 rfl) rfl
theorem q100 : (Jvm.Cond.code ({ cls := "OlderFirstHeap", name := "badRoot", desc := "(I)Z" } : Jvm.MethodName) prog_1_method_2_code (1 : Nat) (Option.some Jvm.ClassFile.FieldType.boolean)) ∈ lw_all := lw_g (lw_at lw_m1 75 rfl) rfl
theorem q101 : (Jvm.Cond.methodLink "OlderFirstHeap" (116 : Nat) ({ cls := "OlderFirstHeap", name := "walkFromRoots", desc := "()V" } : Jvm.MethodName)) ∈ lw_all := lw_g (lw_at lw_m1 76 rfl) rfl
theorem q102 : (Jvm.Cond.privateMethod ({ cls := "OlderFirstHeap", name := "walkFromRoots", desc := "()V" } : Jvm.MethodName)) ∈ lw_tbl := lw_at lw_m1 77 rfl
theorem q103 : (Jvm.Cond.instanceMethod ({ cls := "OlderFirstHeap", name := "walkFromRoots", desc := "()V" } : Jvm.MethodName)) ∈ lw_all := lw_g (lw_at lw_m1 78 rfl) rfl
theorem q104 : (Jvm.Cond.code ({ cls := "OlderFirstHeap", name := "walkFromRoots", desc := "()V" } : Jvm.MethodName) prog_1_method_7_code (2 : Nat) (Option.none : Option Jvm.ClassFile.FieldType)) ∈ lw_all := lw_g (lw_at lw_m1 79 rfl) rfl
theorem q105 : (Jvm.Cond.methodLink "OlderFirstHeap" (62 : Nat) ({ cls := "OlderFirstHeap", name := "startWalk", desc := "()V" } : Jvm.MethodName)) ∈ lw_all := lw_g (lw_at lw_m1 80 rfl) rfl
theorem q106 : (Jvm.Cond.privateMethod ({ cls := "OlderFirstHeap", name := "startWalk", desc := "()V" } : Jvm.MethodName)) ∈ lw_tbl := lw_at lw_m1 81 rfl
theorem q107 : (Jvm.Cond.instanceMethod ({ cls := "OlderFirstHeap", name := "startWalk", desc := "()V" } : Jvm.MethodName)) ∈ lw_all := lw_g (lw_at lw_m1 82 rfl) rfl
theorem q108 : (Jvm.Cond.code ({ cls := "OlderFirstHeap", name := "startWalk", desc := "()V" } : Jvm.MethodName) prog_1_method_4_code (2 : Nat) (Option.none : Option Jvm.ClassFile.FieldType)) ∈ lw_all := lw_g (lw_at lw_m1 83 rfl) rfl
theorem q109 : (Jvm.Cond.methodLink "OlderFirstHeap" (58 : Nat) ({ cls := "OlderFirstHeap", name := "visit", desc := "(II)V" } : Jvm.MethodName)) ∈ lw_all := lw_g (lw_at lw_m1 84 rfl) rfl
theorem q110 : (Jvm.Cond.privateMethod ({ cls := "OlderFirstHeap", name := "visit", desc := "(II)V" } : Jvm.MethodName)) ∈ lw_tbl := lw_at lw_m1 85 rfl
theorem q111 : (Jvm.Cond.instanceMethod ({ cls := "OlderFirstHeap", name := "visit", desc := "(II)V" } : Jvm.MethodName)) ∈ lw_all := lw_g (lw_at lw_m1 86 rfl) rfl
theorem q112 : (Jvm.Cond.code ({ cls := "OlderFirstHeap", name := "visit", desc := "(II)V" } : Jvm.MethodName) prog_1_method_5_code (3 : Nat) (Option.none : Option Jvm.ClassFile.FieldType)) ∈ lw_all := lw_g (lw_at lw_m1 87 rfl) rfl
theorem q113 : (Jvm.Cond.methodLink "OlderFirstHeap" (65 : Nat) ({ cls := "OlderFirstHeap", name := "finishWalk", desc := "()V" } : Jvm.MethodName)) ∈ lw_all := lw_g (lw_at lw_m1 88 rfl) rfl
theorem q114 : (Jvm.Cond.privateMethod ({ cls := "OlderFirstHeap", name := "finishWalk", desc := "()V" } : Jvm.MethodName)) ∈ lw_tbl := lw_at lw_m1 89 rfl
theorem q115 : (Jvm.Cond.instanceMethod ({ cls := "OlderFirstHeap", name := "finishWalk", desc := "()V" } : Jvm.MethodName)) ∈ lw_all := lw_g (lw_at lw_m1 90 rfl) rfl
theorem q116 : (Jvm.Cond.code ({ cls := "OlderFirstHeap", name := "finishWalk", desc := "()V" } : Jvm.MethodName) prog_1_method_6_code (4 : Nat) (Option.none : Option Jvm.ClassFile.FieldType)) ∈ lw_all := lw_g (lw_at lw_m1 91 rfl) rfl
theorem q117 : (Jvm.Cond.methodLink "OlderFirstHeap" (134 : Nat) ({ cls := "OlderFirstHeap", name := "newSlot", desc := "()I" } : Jvm.MethodName)) ∈ lw_all := lw_g (lw_at lw_m1 92 rfl) rfl
theorem q118 : (Jvm.Cond.privateMethod ({ cls := "OlderFirstHeap", name := "newSlot", desc := "()I" } : Jvm.MethodName)) ∈ lw_tbl := lw_at lw_m1 93 rfl
theorem q119 : (Jvm.Cond.instanceMethod ({ cls := "OlderFirstHeap", name := "newSlot", desc := "()I" } : Jvm.MethodName)) ∈ lw_all := lw_g (lw_at lw_m1 94 rfl) rfl
theorem q120 : (Jvm.Cond.code ({ cls := "OlderFirstHeap", name := "newSlot", desc := "()I" } : Jvm.MethodName) prog_1_method_22_code (2 : Nat) (Option.some Jvm.ClassFile.FieldType.int)) ∈ lw_all := lw_g (lw_at lw_m1 95 rfl) rfl
theorem q121 : (Jvm.Cond.methodLink "OlderFirstHeap" (125 : Nat) ({ cls := "OlderFirstHeap", name := "moveWindow", desc := "()V" } : Jvm.MethodName)) ∈ lw_all := lw_g (lw_at lw_m1 96 rfl) rfl
theorem q122 : (Jvm.Cond.privateMethod ({ cls := "OlderFirstHeap", name := "moveWindow", desc := "()V" } : Jvm.MethodName)) ∈ lw_tbl := lw_at lw_m1 97 rfl
theorem q123 : (Jvm.Cond.instanceMethod ({ cls := "OlderFirstHeap", name := "moveWindow", desc := "()V" } : Jvm.MethodName)) ∈ lw_all := lw_g (lw_at lw_m1 98 rfl) rfl
theorem q124 : (Jvm.Cond.code ({ cls := "OlderFirstHeap", name := "moveWindow", desc := "()V" } : Jvm.MethodName) prog_1_method_18_code (2 : Nat) (Option.none : Option Jvm.ClassFile.FieldType)) ∈ lw_all := lw_g (lw_at lw_m1 99 rfl) rfl
theorem q125 : (Jvm.Cond.methodLink "OlderFirstHeap" (113 : Nat) ({ cls := "OlderFirstHeap", name := "collectBlock", desc := "(I)V" } : Jvm.MethodName)) ∈ lw_all := lw_g (lw_at lw_m1 100 rfl) rfl
theorem q126 : (Jvm.Cond.privateMethod ({ cls := "OlderFirstHeap", name := "collectBlock", desc := "(I)V" } : Jvm.MethodName)) ∈ lw_tbl := lw_at lw_m1 101 rfl
theorem q127 : (Jvm.Cond.instanceMethod ({ cls := "OlderFirstHeap", name := "collectBlock", desc := "(I)V" } : Jvm.MethodName)) ∈ lw_all := lw_g (lw_at lw_m1 102 rfl) rfl
theorem q128 : (Jvm.Cond.code ({ cls := "OlderFirstHeap", name := "collectBlock", desc := "(I)V" } : Jvm.MethodName) prog_1_method_16_code (5 : Nat) (Option.none : Option Jvm.ClassFile.FieldType)) ∈ lw_all := lw_g (lw_at lw_m1 103 rfl) rfl
theorem q129 : (Jvm.Cond.methodLink "OlderFirstHeap" (88 : Nat) ({ cls := "OlderFirstHeap", name := "within", desc := "(II)Z" } : Jvm.MethodName)) ∈ lw_all := lw_g (lw_at lw_m1 104 rfl) rfl
theorem q130 : (Jvm.Cond.privateMethod ({ cls := "OlderFirstHeap", name := "within", desc := "(II)Z" } : Jvm.MethodName)) ∈ lw_tbl := lw_at lw_m1 105 rfl
theorem q131 : (Jvm.Cond.instanceMethod ({ cls := "OlderFirstHeap", name := "within", desc := "(II)Z" } : Jvm.MethodName)) ∈ lw_all := lw_g (lw_at lw_m1 106 rfl) rfl
theorem q132 : (Jvm.Cond.code ({ cls := "OlderFirstHeap", name := "within", desc := "(II)Z" } : Jvm.MethodName) prog_1_method_13_code (3 : Nat) (Option.some Jvm.ClassFile.FieldType.boolean)) ∈ lw_all := lw_g (lw_at lw_m1 107 rfl) rfl
theorem q133 : (Jvm.Cond.methodLink "OlderFirstHeap" (92 : Nat) ({ cls := "OlderFirstHeap", name := "evacuate", desc := "(I)I" } : Jvm.MethodName)) ∈ lw_all := lw_g (lw_at lw_m1 108 rfl) rfl
theorem q134 : (Jvm.Cond.privateMethod ({ cls := "OlderFirstHeap", name := "evacuate", desc := "(I)I" } : Jvm.MethodName)) ∈ lw_tbl := lw_at lw_m1 109 rfl
theorem q135 : (Jvm.Cond.instanceMethod ({ cls := "OlderFirstHeap", name := "evacuate", desc := "(I)I" } : Jvm.MethodName)) ∈ lw_all := lw_g (lw_at lw_m1 110 rfl) rfl
theorem q136 : (Jvm.Cond.code ({ cls := "OlderFirstHeap", name := "evacuate", desc := "(I)I" } : Jvm.MethodName) prog_1_method_14_code (5 : Nat) (Option.some Jvm.ClassFile.FieldType.int)) ∈ lw_all := lw_g (lw_at lw_m1 111 rfl) rfl
theorem q137 : (Jvm.Cond.methodLink "OlderFirstHeap" (82 : Nat) ({ cls := "OlderFirstHeap", name := "bump", desc := "()I" } : Jvm.MethodName)) ∈ lw_all := lw_g (lw_at lw_m1 112 rfl) rfl
theorem q138 : (Jvm.Cond.privateMethod ({ cls := "OlderFirstHeap", name := "bump", desc := "()I" } : Jvm.MethodName)) ∈ lw_tbl := lw_at lw_m1 113 rfl
theorem q139 : (Jvm.Cond.instanceMethod ({ cls := "OlderFirstHeap", name := "bump", desc := "()I" } : Jvm.MethodName)) ∈ lw_all := lw_g (lw_at lw_m1 114 rfl) rfl
theorem q140 : (Jvm.Cond.code ({ cls := "OlderFirstHeap", name := "bump", desc := "()I" } : Jvm.MethodName) prog_1_method_11_code (2 : Nat) (Option.some Jvm.ClassFile.FieldType.int)) ∈ lw_all := lw_g (lw_at lw_m1 115 rfl) rfl
theorem q141 : (Jvm.Cond.methodLink "OlderFirstHeap" (75 : Nat) ({ cls := "OlderFirstHeap", name := "openBlock", desc := "()V" } : Jvm.MethodName)) ∈ lw_all := lw_g (lw_at lw_m1 116 rfl) rfl
theorem q142 : (Jvm.Cond.privateMethod ({ cls := "OlderFirstHeap", name := "openBlock", desc := "()V" } : Jvm.MethodName)) ∈ lw_tbl := lw_at lw_m1 117 rfl
theorem q143 : (Jvm.Cond.instanceMethod ({ cls := "OlderFirstHeap", name := "openBlock", desc := "()V" } : Jvm.MethodName)) ∈ lw_all := lw_g (lw_at lw_m1 118 rfl) rfl
theorem q144 : (Jvm.Cond.code ({ cls := "OlderFirstHeap", name := "openBlock", desc := "()V" } : Jvm.MethodName) prog_1_method_10_code (3 : Nat) (Option.none : Option Jvm.ClassFile.FieldType)) ∈ lw_all := lw_g (lw_at lw_m1 119 rfl) rfl
theorem q145 : (Jvm.Cond.methodLink "OlderFirstHeap" (68 : Nat) ({ cls := "OlderFirstHeap", name := "inUse", desc := "(I)Z" } : Jvm.MethodName)) ∈ lw_all := lw_g (lw_at lw_m1 120 rfl) rfl
theorem q146 : (Jvm.Cond.privateMethod ({ cls := "OlderFirstHeap", name := "inUse", desc := "(I)Z" } : Jvm.MethodName)) ∈ lw_tbl := lw_at lw_m1 121 rfl
theorem q147 : (Jvm.Cond.instanceMethod ({ cls := "OlderFirstHeap", name := "inUse", desc := "(I)Z" } : Jvm.MethodName)) ∈ lw_all := lw_g (lw_at lw_m1 122 rfl) rfl
theorem q148 : (Jvm.Cond.code ({ cls := "OlderFirstHeap", name := "inUse", desc := "(I)Z" } : Jvm.MethodName) prog_1_method_9_code (3 : Nat) (Option.some Jvm.ClassFile.FieldType.boolean)) ∈ lw_all := lw_g (lw_at lw_m1 123 rfl) rfl
theorem q149 : (Jvm.Cond.methodLink "OlderFirstHeap" (78 : Nat) ({ cls := "OlderFirstHeap", name := "youngest", desc := "()I" } : Jvm.MethodName)) ∈ lw_all := lw_g (lw_at lw_m1 124 rfl) rfl
theorem q150 : (Jvm.Cond.privateMethod ({ cls := "OlderFirstHeap", name := "youngest", desc := "()I" } : Jvm.MethodName)) ∈ lw_tbl := lw_at lw_m1 125 rfl
theorem q151 : (Jvm.Cond.instanceMethod ({ cls := "OlderFirstHeap", name := "youngest", desc := "()I" } : Jvm.MethodName)) ∈ lw_all := lw_g (lw_at lw_m1 126 rfl) rfl
theorem q152 : (Jvm.Cond.code ({ cls := "OlderFirstHeap", name := "youngest", desc := "()I" } : Jvm.MethodName) prog_1_method_8_code (1 : Nat) (Option.some Jvm.ClassFile.FieldType.int)) ∈ lw_all := lw_g (lw_at lw_m1 127 rfl) rfl
theorem q153 : (Jvm.Cond.methodLink "OlderFirstHeap" (99 : Nat) ({ cls := "OlderFirstHeap", name := "fixFields", desc := "(II)V" } : Jvm.MethodName)) ∈ lw_all := lw_g (lw_at lw_m1 128 rfl) rfl
theorem q154 : (Jvm.Cond.privateMethod ({ cls := "OlderFirstHeap", name := "fixFields", desc := "(II)V" } : Jvm.MethodName)) ∈ lw_tbl := lw_at lw_m1 129 rfl
theorem q155 : (Jvm.Cond.instanceMethod ({ cls := "OlderFirstHeap", name := "fixFields", desc := "(II)V" } : Jvm.MethodName)) ∈ lw_all := lw_g (lw_at lw_m1 130 rfl) rfl
theorem q156 : (Jvm.Cond.code ({ cls := "OlderFirstHeap", name := "fixFields", desc := "(II)V" } : Jvm.MethodName) prog_1_method_15_code (5 : Nat) (Option.none : Option Jvm.ClassFile.FieldType)) ∈ lw_all := lw_g (lw_at lw_m1 131 rfl) rfl
theorem q157 : (Jvm.Cond.methodLink "OlderFirstHeap" (96 : Nat) ({ cls := "OlderFirstHeap", name := "remember", desc := "(II)V" } : Jvm.MethodName)) ∈ lw_all := lw_g (lw_at lw_m1 132 rfl) rfl
theorem q158 : (Jvm.Cond.privateMethod ({ cls := "OlderFirstHeap", name := "remember", desc := "(II)V" } : Jvm.MethodName)) ∈ lw_tbl := lw_at lw_m1 133 rfl
theorem q159 : (Jvm.Cond.instanceMethod ({ cls := "OlderFirstHeap", name := "remember", desc := "(II)V" } : Jvm.MethodName)) ∈ lw_all := lw_g (lw_at lw_m1 134 rfl) rfl
theorem q160 : (Jvm.Cond.code ({ cls := "OlderFirstHeap", name := "remember", desc := "(II)V" } : Jvm.MethodName) prog_1_method_12_code (3 : Nat) (Option.none : Option Jvm.ClassFile.FieldType)) ∈ lw_all := lw_g (lw_at lw_m1 135 rfl) rfl
theorem q161 : (Jvm.Cond.methodLink "OlderFirstHeap" (102 : Nat) ({ cls := "OlderFirstHeap", name := "freeBlock", desc := "(I)V" } : Jvm.MethodName)) ∈ lw_all := lw_g (lw_at lw_m1 136 rfl) rfl
theorem q162 : (Jvm.Cond.privateMethod ({ cls := "OlderFirstHeap", name := "freeBlock", desc := "(I)V" } : Jvm.MethodName)) ∈ lw_tbl := lw_at lw_m1 137 rfl
theorem q163 : (Jvm.Cond.instanceMethod ({ cls := "OlderFirstHeap", name := "freeBlock", desc := "(I)V" } : Jvm.MethodName)) ∈ lw_all := lw_g (lw_at lw_m1 138 rfl) rfl
theorem q164 : (Jvm.Cond.code ({ cls := "OlderFirstHeap", name := "freeBlock", desc := "(I)V" } : Jvm.MethodName) prog_1_method_17_code (6 : Nat) (Option.none : Option Jvm.ClassFile.FieldType)) ∈ lw_all := lw_g (lw_at lw_m1 139 rfl) rfl
theorem q165 : (Jvm.Cond.constantLong "OlderFirstHeap" (106 : Nat) (255 : Int64)) ∈ lw_all := lw_g (lw_at lw_m1 140 rfl) rfl
theorem q166 : (Jvm.Cond.constantLong "OlderFirstHeap" (108 : Nat) (-1 : Int64)) ∈ lw_all := lw_g (lw_at lw_m1 141 rfl) rfl
theorem q167 : (Jvm.Cond.methodLink "OlderFirstHeap" (128 : Nat) ({ cls := "OlderFirstHeap", name := "collectAll", desc := "()V" } : Jvm.MethodName)) ∈ lw_all := lw_g (lw_at lw_m1 142 rfl) rfl
theorem q168 : (Jvm.Cond.privateMethod ({ cls := "OlderFirstHeap", name := "collectAll", desc := "()V" } : Jvm.MethodName)) ∈ lw_tbl := lw_at lw_m1 143 rfl
theorem q169 : (Jvm.Cond.instanceMethod ({ cls := "OlderFirstHeap", name := "collectAll", desc := "()V" } : Jvm.MethodName)) ∈ lw_all := lw_g (lw_at lw_m1 144 rfl) rfl
theorem q170 : (Jvm.Cond.code ({ cls := "OlderFirstHeap", name := "collectAll", desc := "()V" } : Jvm.MethodName) prog_1_method_19_code (3 : Nat) (Option.none : Option Jvm.ClassFile.FieldType)) ∈ lw_all := lw_g (lw_at lw_m1 145 rfl) rfl
theorem q171 : (Jvm.Cond.methodLink "OlderFirstHeap" (119 : Nat) ({ cls := "OlderFirstHeap", name := "moved", desc := "(I)I" } : Jvm.MethodName)) ∈ lw_all := lw_g (lw_at lw_m1 146 rfl) rfl
theorem q172 : (Jvm.Cond.privateMethod ({ cls := "OlderFirstHeap", name := "moved", desc := "(I)I" } : Jvm.MethodName)) ∈ lw_tbl := lw_at lw_m1 147 rfl
theorem q173 : (Jvm.Cond.instanceMethod ({ cls := "OlderFirstHeap", name := "moved", desc := "(I)I" } : Jvm.MethodName)) ∈ lw_all := lw_g (lw_at lw_m1 148 rfl) rfl
theorem q174 : (Jvm.Cond.code ({ cls := "OlderFirstHeap", name := "moved", desc := "(I)I" } : Jvm.MethodName) prog_1_method_20_code (2 : Nat) (Option.some Jvm.ClassFile.FieldType.int)) ∈ lw_all := lw_g (lw_at lw_m1 149 rfl) rfl
theorem q175 : (Jvm.Cond.methodLink "OlderFirstHeap" (122 : Nat) ({ cls := "OlderFirstHeap", name := "layOut", desc := "(I)V" } : Jvm.MethodName)) ∈ lw_all := lw_g (lw_at lw_m1 150 rfl) rfl
theorem q176 : (Jvm.Cond.privateMethod ({ cls := "OlderFirstHeap", name := "layOut", desc := "(I)V" } : Jvm.MethodName)) ∈ lw_tbl := lw_at lw_m1 151 rfl
theorem q177 : (Jvm.Cond.instanceMethod ({ cls := "OlderFirstHeap", name := "layOut", desc := "(I)V" } : Jvm.MethodName)) ∈ lw_all := lw_g (lw_at lw_m1 152 rfl) rfl
theorem q178 : (Jvm.Cond.code ({ cls := "OlderFirstHeap", name := "layOut", desc := "(I)V" } : Jvm.MethodName) prog_1_method_21_code (3 : Nat) (Option.none : Option Jvm.ClassFile.FieldType)) ∈ lw_all := lw_g (lw_at lw_m1 153 rfl) rfl
theorem q180 : (Jvm.Cond.instanceMethod ({ cls := "OlderFirstHeap", name := "copyRoot", desc := "(II)I" } : Jvm.MethodName)) ∈ lw_all := lw_g (lw_at lw_m1 155 rfl) rfl
theorem q181 : (Jvm.Cond.selects "OlderFirstHeap" ({ cls := "OlderFirstHeap", name := "copyRoot", desc := "(II)I" } : Jvm.MethodName) ({ cls := "OlderFirstHeap", name := "copyRoot", desc := "(II)I" } : Jvm.MethodName)) ∈ lw_all := lw_g (lw_at lw_m1 156 rfl) rfl
theorem q182 : (Jvm.Cond.code ({ cls := "OlderFirstHeap", name := "copyRoot", desc := "(II)I" } : Jvm.MethodName) prog_1_method_24_code (3 : Nat) (Option.some Jvm.ClassFile.FieldType.int)) ∈ lw_all := lw_g (lw_at lw_m1 157 rfl) rfl
theorem q184 : (Jvm.Cond.instanceMethod ({ cls := "OlderFirstHeap", name := "drop", desc := "(I)I" } : Jvm.MethodName)) ∈ lw_all := lw_g (lw_at lw_m1 159 rfl) rfl
theorem q185 : (Jvm.Cond.selects "OlderFirstHeap" ({ cls := "OlderFirstHeap", name := "drop", desc := "(I)I" } : Jvm.MethodName) ({ cls := "OlderFirstHeap", name := "drop", desc := "(I)I" } : Jvm.MethodName)) ∈ lw_all := lw_g (lw_at lw_m1 160 rfl) rfl
theorem q186 : (Jvm.Cond.code ({ cls := "OlderFirstHeap", name := "drop", desc := "(I)I" } : Jvm.MethodName) prog_1_method_25_code (2 : Nat) (Option.some Jvm.ClassFile.FieldType.int)) ∈ lw_all := lw_g (lw_at lw_m1 161 rfl) rfl
theorem q188 : (Jvm.Cond.instanceMethod ({ cls := "OlderFirstHeap", name := "load", desc := "(III)I" } : Jvm.MethodName)) ∈ lw_all := lw_g (lw_at lw_m1 163 rfl) rfl
theorem q189 : (Jvm.Cond.selects "OlderFirstHeap" ({ cls := "OlderFirstHeap", name := "load", desc := "(III)I" } : Jvm.MethodName) ({ cls := "OlderFirstHeap", name := "load", desc := "(III)I" } : Jvm.MethodName)) ∈ lw_all := lw_g (lw_at lw_m1 164 rfl) rfl
theorem q190 : (Jvm.Cond.code ({ cls := "OlderFirstHeap", name := "load", desc := "(III)I" } : Jvm.MethodName) prog_1_method_26_code (4 : Nat) (Option.some Jvm.ClassFile.FieldType.int)) ∈ lw_all := lw_g (lw_at lw_m1 165 rfl) rfl
theorem q191 : (Jvm.Cond.methodLink "OlderFirstHeap" (137 : Nat) ({ cls := "OlderFirstHeap", name := "badField", desc := "(I)Z" } : Jvm.MethodName)) ∈ lw_all := lw_g (lw_at lw_m1 166 rfl) rfl
theorem q192 : (Jvm.Cond.static ({ cls := "OlderFirstHeap", name := "badField", desc := "(I)Z" } : Jvm.MethodName)) ∈ lw_all := lw_g (lw_at lw_m1 167 rfl) rfl
theorem q193 : (Jvm.Cond.code ({ cls := "OlderFirstHeap", name := "badField", desc := "(I)Z" } : Jvm.MethodName) prog_1_method_3_code (1 : Nat) (Option.some Jvm.ClassFile.FieldType.boolean)) ∈ lw_all := lw_g (lw_at lw_m1 168 rfl) rfl
theorem q195 : (Jvm.Cond.instanceMethod ({ cls := "OlderFirstHeap", name := "store", desc := "(III)I" } : Jvm.MethodName)) ∈ lw_all := lw_g (lw_at lw_m1 170 rfl) rfl
theorem q196 : (Jvm.Cond.selects "OlderFirstHeap" ({ cls := "OlderFirstHeap", name := "store", desc := "(III)I" } : Jvm.MethodName) ({ cls := "OlderFirstHeap", name := "store", desc := "(III)I" } : Jvm.MethodName)) ∈ lw_all := lw_g (lw_at lw_m1 171 rfl) rfl
theorem q197 : (Jvm.Cond.code ({ cls := "OlderFirstHeap", name := "store", desc := "(III)I" } : Jvm.MethodName) prog_1_method_27_code (5 : Nat) (Option.some Jvm.ClassFile.FieldType.int)) ∈ lw_all := lw_g (lw_at lw_m1 172 rfl) rfl
theorem q199 : (Jvm.Cond.instanceMethod ({ cls := "OlderFirstHeap", name := "setPayload", desc := "(II)I" } : Jvm.MethodName)) ∈ lw_all := lw_g (lw_at lw_m1 174 rfl) rfl
theorem q200 : (Jvm.Cond.selects "OlderFirstHeap" ({ cls := "OlderFirstHeap", name := "setPayload", desc := "(II)I" } : Jvm.MethodName) ({ cls := "OlderFirstHeap", name := "setPayload", desc := "(II)I" } : Jvm.MethodName)) ∈ lw_all := lw_g (lw_at lw_m1 175 rfl) rfl
theorem q201 : (Jvm.Cond.code ({ cls := "OlderFirstHeap", name := "setPayload", desc := "(II)I" } : Jvm.MethodName) prog_1_method_28_code (3 : Nat) (Option.some Jvm.ClassFile.FieldType.int)) ∈ lw_all := lw_g (lw_at lw_m1 176 rfl) rfl
theorem q203 : (Jvm.Cond.instanceMethod ({ cls := "OlderFirstHeap", name := "collect", desc := "()V" } : Jvm.MethodName)) ∈ lw_all := lw_g (lw_at lw_m1 178 rfl) rfl
theorem q204 : (Jvm.Cond.selects "OlderFirstHeap" ({ cls := "OlderFirstHeap", name := "collect", desc := "()V" } : Jvm.MethodName) ({ cls := "OlderFirstHeap", name := "collect", desc := "()V" } : Jvm.MethodName)) ∈ lw_all := lw_g (lw_at lw_m1 179 rfl) rfl
theorem q205 : (Jvm.Cond.code ({ cls := "OlderFirstHeap", name := "collect", desc := "()V" } : Jvm.MethodName) prog_1_method_29_code (2 : Nat) (Option.none : Option Jvm.ClassFile.FieldType)) ∈ lw_all := lw_g (lw_at lw_m1 180 rfl) rfl
theorem q207 : (Jvm.Cond.instanceMethod ({ cls := "OlderFirstHeap", name := "payload", desc := "(I)I" } : Jvm.MethodName)) ∈ lw_all := lw_g (lw_at lw_m1 182 rfl) rfl
theorem q208 : (Jvm.Cond.selects "OlderFirstHeap" ({ cls := "OlderFirstHeap", name := "payload", desc := "(I)I" } : Jvm.MethodName) ({ cls := "OlderFirstHeap", name := "payload", desc := "(I)I" } : Jvm.MethodName)) ∈ lw_all := lw_g (lw_at lw_m1 183 rfl) rfl
theorem q209 : (Jvm.Cond.code ({ cls := "OlderFirstHeap", name := "payload", desc := "(I)I" } : Jvm.MethodName) prog_1_method_31_code (2 : Nat) (Option.some Jvm.ClassFile.FieldType.int)) ∈ lw_all := lw_g (lw_at lw_m1 184 rfl) rfl
theorem q210 : (Jvm.Cond.methodLink "OlderFirstHeap" (140 : Nat) ({ cls := "OlderFirstHeap", name := "empty", desc := "(I)Z" } : Jvm.MethodName)) ∈ lw_all := lw_g (lw_at lw_m1 185 rfl) rfl
theorem q211 : (Jvm.Cond.privateMethod ({ cls := "OlderFirstHeap", name := "empty", desc := "(I)Z" } : Jvm.MethodName)) ∈ lw_tbl := lw_at lw_m1 186 rfl
theorem q212 : (Jvm.Cond.instanceMethod ({ cls := "OlderFirstHeap", name := "empty", desc := "(I)Z" } : Jvm.MethodName)) ∈ lw_all := lw_g (lw_at lw_m1 187 rfl) rfl
theorem q213 : (Jvm.Cond.code ({ cls := "OlderFirstHeap", name := "empty", desc := "(I)Z" } : Jvm.MethodName) prog_1_method_30_code (2 : Nat) (Option.some Jvm.ClassFile.FieldType.boolean)) ∈ lw_all := lw_g (lw_at lw_m1 188 rfl) rfl
theorem q215 : (Jvm.Cond.instanceMethod ({ cls := "OlderFirstHeap", name := "held", desc := "(I)Z" } : Jvm.MethodName)) ∈ lw_all := lw_g (lw_at lw_m1 190 rfl) rfl
theorem q216 : (Jvm.Cond.selects "OlderFirstHeap" ({ cls := "OlderFirstHeap", name := "held", desc := "(I)Z" } : Jvm.MethodName) ({ cls := "OlderFirstHeap", name := "held", desc := "(I)Z" } : Jvm.MethodName)) ∈ lw_all := lw_g (lw_at lw_m1 191 rfl) rfl
theorem q217 : (Jvm.Cond.code ({ cls := "OlderFirstHeap", name := "held", desc := "(I)Z" } : Jvm.MethodName) prog_1_method_32_code (2 : Nat) (Option.some Jvm.ClassFile.FieldType.boolean)) ∈ lw_all := lw_g (lw_at lw_m1 192 rfl) rfl
theorem q219 : (Jvm.Cond.instanceMethod ({ cls := "OlderFirstHeap", name := "same", desc := "(II)Z" } : Jvm.MethodName)) ∈ lw_all := lw_g (lw_at lw_m1 194 rfl) rfl
theorem q220 : (Jvm.Cond.selects "OlderFirstHeap" ({ cls := "OlderFirstHeap", name := "same", desc := "(II)Z" } : Jvm.MethodName) ({ cls := "OlderFirstHeap", name := "same", desc := "(II)Z" } : Jvm.MethodName)) ∈ lw_all := lw_g (lw_at lw_m1 195 rfl) rfl
theorem q221 : (Jvm.Cond.code ({ cls := "OlderFirstHeap", name := "same", desc := "(II)Z" } : Jvm.MethodName) prog_1_method_33_code (3 : Nat) (Option.some Jvm.ClassFile.FieldType.boolean)) ∈ lw_all := lw_g (lw_at lw_m1 196 rfl) rfl
theorem q223 : (Jvm.Cond.instanceMethod ({ cls := "OlderFirstHeap", name := "reachable", desc := "()I" } : Jvm.MethodName)) ∈ lw_all := lw_g (lw_at lw_m1 198 rfl) rfl
theorem q224 : (Jvm.Cond.selects "OlderFirstHeap" ({ cls := "OlderFirstHeap", name := "reachable", desc := "()I" } : Jvm.MethodName) ({ cls := "OlderFirstHeap", name := "reachable", desc := "()I" } : Jvm.MethodName)) ∈ lw_all := lw_g (lw_at lw_m1 199 rfl) rfl
theorem q225 : (Jvm.Cond.code ({ cls := "OlderFirstHeap", name := "reachable", desc := "()I" } : Jvm.MethodName) prog_1_method_34_code (1 : Nat) (Option.some Jvm.ClassFile.FieldType.int)) ∈ lw_all := lw_g (lw_at lw_m1 200 rfl) rfl
theorem q227 : (Jvm.Cond.instanceMethod ({ cls := "OlderFirstHeap", name := "reachableFrom", desc := "(I)I" } : Jvm.MethodName)) ∈ lw_all := lw_g (lw_at lw_m1 202 rfl) rfl
theorem q228 : (Jvm.Cond.selects "OlderFirstHeap" ({ cls := "OlderFirstHeap", name := "reachableFrom", desc := "(I)I" } : Jvm.MethodName) ({ cls := "OlderFirstHeap", name := "reachableFrom", desc := "(I)I" } : Jvm.MethodName)) ∈ lw_all := lw_g (lw_at lw_m1 203 rfl) rfl
theorem q229 : (Jvm.Cond.code ({ cls := "OlderFirstHeap", name := "reachableFrom", desc := "(I)I" } : Jvm.MethodName) prog_1_method_35_code (2 : Nat) (Option.some Jvm.ClassFile.FieldType.int)) ∈ lw_all := lw_g (lw_at lw_m1 204 rfl) rfl
theorem q231 : (Jvm.Cond.instanceMethod ({ cls := "OlderFirstHeap", name := "distance", desc := "(II)I" } : Jvm.MethodName)) ∈ lw_all := lw_g (lw_at lw_m1 206 rfl) rfl
theorem q232 : (Jvm.Cond.selects "OlderFirstHeap" ({ cls := "OlderFirstHeap", name := "distance", desc := "(II)I" } : Jvm.MethodName) ({ cls := "OlderFirstHeap", name := "distance", desc := "(II)I" } : Jvm.MethodName)) ∈ lw_all := lw_g (lw_at lw_m1 207 rfl) rfl
theorem q233 : (Jvm.Cond.code ({ cls := "OlderFirstHeap", name := "distance", desc := "(II)I" } : Jvm.MethodName) prog_1_method_36_code (4 : Nat) (Option.some Jvm.ClassFile.FieldType.int)) ∈ lw_all := lw_g (lw_at lw_m1 208 rfl) rfl
theorem q235 : (Jvm.Cond.instanceMethod ({ cls := "OlderFirstHeap", name := "sum", desc := "()I" } : Jvm.MethodName)) ∈ lw_all := lw_g (lw_at lw_m1 210 rfl) rfl
theorem q236 : (Jvm.Cond.selects "OlderFirstHeap" ({ cls := "OlderFirstHeap", name := "sum", desc := "()I" } : Jvm.MethodName) ({ cls := "OlderFirstHeap", name := "sum", desc := "()I" } : Jvm.MethodName)) ∈ lw_all := lw_g (lw_at lw_m1 211 rfl) rfl
theorem q237 : (Jvm.Cond.code ({ cls := "OlderFirstHeap", name := "sum", desc := "()I" } : Jvm.MethodName) prog_1_method_37_code (3 : Nat) (Option.some Jvm.ClassFile.FieldType.int)) ∈ lw_all := lw_g (lw_at lw_m1 212 rfl) rfl
theorem in_X1 : ∀ w ∈ wsX10, w ∈ lw_all := lw_in wsX10 [54, 56, 58, 60, 62, 64, 66, 68, 70, 72, 74, 76, 78, 80, 82, 84, 86, 88] (by decide +kernel) (by decide +kernel)
def RX2 : String := "OlderFirstHeapModel"
def TX2 : u_T := fun k => match k with
  | 0 => ("OlderFirstHeapModel", "roots", "[I", true)
  | 1 => ("OlderFirstHeapModel", "fields", "[I", true)
  | 2 => ("OlderFirstHeapModel", "payloads", "[I", true)
  | _ => ("OlderFirstHeapModel", "away", "[I", true)
def tyX2 : Nat → FieldType := fun k => match k with
  | 0 => .array .int
  | 1 => .array .int
  | 2 => .array .int
  | _ => .array .int
abbrev wsX20 : List Cond := u_ws RX2 TX2 4
theorem nmX2 : ∀ a, a < 4 → ∀ b, b < 4 → a ≠ b → (TX2 a).2.1 ≠ (TX2 b).2.1 := by decide +kernel
theorem tyX2_ok : ∀ k, k < 4 → parseFieldDescriptor (TX2 k).2.2.1 = some (tyX2 k) := by decide +kernel
abbrev cX2_init : ByteArray := prog_3_method_1_code
def yX2_init : MethodName := ⟨RX2, "<init>", "(I)V"⟩
abbrev cX2_make : ByteArray := prog_3_method_6_code
def yX2_make : MethodName := ⟨RX2, "make", "(II)I"⟩
abbrev cX2_isRoot : ByteArray := prog_3_method_2_code
def yX2_isRoot : MethodName := ⟨RX2, "isRoot", "(I)Z"⟩
abbrev cX2_reachable : ByteArray := prog_3_method_17_code
def yX2_reachable : MethodName := ⟨RX2, "reachable", "()I"⟩
abbrev cX2_spread : ByteArray := prog_3_method_4_code
def yX2_spread : MethodName := ⟨RX2, "spread", "(I)V"⟩
abbrev cX2_found : ByteArray := prog_3_method_5_code
def yX2_found : MethodName := ⟨RX2, "found", "()I"⟩
abbrev cX2_copyRoot : ByteArray := prog_3_method_7_code
def yX2_copyRoot : MethodName := ⟨RX2, "copyRoot", "(II)I"⟩
abbrev cX2_drop : ByteArray := prog_3_method_8_code
def yX2_drop : MethodName := ⟨RX2, "drop", "(I)I"⟩
abbrev cX2_load : ByteArray := prog_3_method_10_code
def yX2_load : MethodName := ⟨RX2, "load", "(III)I"⟩
abbrev cX2_refusal : ByteArray := prog_3_method_9_code
def yX2_refusal : MethodName := ⟨RX2, "refusal", "(III)I"⟩
abbrev cX2_store : ByteArray := prog_3_method_11_code
def yX2_store : MethodName := ⟨RX2, "store", "(III)I"⟩
abbrev cX2_setPayload : ByteArray := prog_3_method_12_code
def yX2_setPayload : MethodName := ⟨RX2, "setPayload", "(II)I"⟩
abbrev cX2_collect : ByteArray := prog_3_method_13_code
def yX2_collect : MethodName := ⟨RX2, "collect", "()V"⟩
abbrev cX2_payload : ByteArray := prog_3_method_14_code
def yX2_payload : MethodName := ⟨RX2, "payload", "(I)I"⟩
abbrev cX2_objectOf : ByteArray := prog_3_method_3_code
def yX2_objectOf : MethodName := ⟨RX2, "objectOf", "(I)I"⟩
abbrev cX2_held : ByteArray := prog_3_method_15_code
def yX2_held : MethodName := ⟨RX2, "held", "(I)Z"⟩
abbrev cX2_same : ByteArray := prog_3_method_16_code
def yX2_same : MethodName := ⟨RX2, "same", "(II)Z"⟩
abbrev cX2_reachableFrom : ByteArray := prog_3_method_18_code
def yX2_reachableFrom : MethodName := ⟨RX2, "reachableFrom", "(I)I"⟩
abbrev cX2_distance : ByteArray := prog_3_method_19_code
def yX2_distance : MethodName := ⟨RX2, "distance", "(II)I"⟩
abbrev cX2_sum : ByteArray := prog_3_method_20_code
def yX2_sum : MethodName := ⟨RX2, "sum", "()I"⟩
theorem q27 : (Jvm.Cond.initialized "OlderFirstHeapModel") ∈ lw_all := lw_g (lw_at lw_m1 2 rfl) rfl
theorem q242 : (Jvm.Cond.instantiable "OlderFirstHeapModel" (4 : Nat)) ∈ lw_all := lw_g (lw_at lw_m1 217 rfl) rfl
theorem q244 : (Jvm.Cond.instanceMethod ({ cls := "OlderFirstHeapModel", name := "<init>", desc := "(I)V" } : Jvm.MethodName)) ∈ lw_all := lw_g (lw_at lw_m1 219 rfl) rfl
theorem q245 : (Jvm.Cond.code ({ cls := "OlderFirstHeapModel", name := "<init>", desc := "(I)V" } : Jvm.MethodName) prog_3_method_1_code (3 : Nat) (Option.none : Option Jvm.ClassFile.FieldType)) ∈ lw_all := lw_g (lw_at lw_m1 220 rfl) rfl
theorem q246 : (Jvm.Cond.methodLink "OlderFirstHeapModel" (1 : Nat) ({ cls := "java/lang/Object", name := "<init>", desc := "()V" } : Jvm.MethodName)) ∈ lw_all := lw_g (lw_at lw_m1 221 rfl) rfl
theorem q247 : (Jvm.Cond.fieldLink "OlderFirstHeapModel" (7 : Nat) "OlderFirstHeapModel" "roots" "[I") ∈ lw_all := lw_g (lw_at lw_m1 222 rfl) rfl
theorem q248 : (Jvm.Cond.fieldLink "OlderFirstHeapModel" (13 : Nat) "OlderFirstHeapModel" "fields" "[I") ∈ lw_all := lw_g (lw_at lw_m1 223 rfl) rfl
theorem q249 : (Jvm.Cond.fieldLink "OlderFirstHeapModel" (16 : Nat) "OlderFirstHeapModel" "payloads" "[I") ∈ lw_all := lw_g (lw_at lw_m1 224 rfl) rfl
theorem q250 : (Jvm.Cond.fieldLink "OlderFirstHeapModel" (19 : Nat) "OlderFirstHeapModel" "away" "[I") ∈ lw_all := lw_g (lw_at lw_m1 225 rfl) rfl
theorem q251 : (Jvm.Cond.laysFinal "OlderFirstHeapModel" "OlderFirstHeapModel" "roots" "[I") ∈ lw_all := lw_g (lw_at lw_m1 226 rfl) rfl
theorem q252 : (Jvm.Cond.soleField "OlderFirstHeapModel" "roots") ∈ lw_all := lw_g (lw_at lw_m1 227 rfl) rfl
theorem q253 : (Jvm.Cond.laysFinal "OlderFirstHeapModel" "OlderFirstHeapModel" "fields" "[I") ∈ lw_all := lw_g (lw_at lw_m1 228 rfl) rfl
theorem q254 : (Jvm.Cond.soleField "OlderFirstHeapModel" "fields") ∈ lw_all := lw_g (lw_at lw_m1 229 rfl) rfl
theorem q255 : (Jvm.Cond.laysFinal "OlderFirstHeapModel" "OlderFirstHeapModel" "payloads" "[I") ∈ lw_all := lw_g (lw_at lw_m1 230 rfl) rfl
theorem q256 : (Jvm.Cond.soleField "OlderFirstHeapModel" "payloads") ∈ lw_all := lw_g (lw_at lw_m1 231 rfl) rfl
theorem q257 : (Jvm.Cond.laysFinal "OlderFirstHeapModel" "OlderFirstHeapModel" "away" "[I") ∈ lw_all := lw_g (lw_at lw_m1 232 rfl) rfl
theorem q258 : (Jvm.Cond.soleField "OlderFirstHeapModel" "away") ∈ lw_all := lw_g (lw_at lw_m1 233 rfl) rfl
theorem q259 : (Jvm.Cond.superclass "OlderFirstHeapModel" "java/lang/Object") ∈ lw_all := lw_g (lw_at lw_m1 234 rfl) rfl
theorem q261 : (Jvm.Cond.instanceMethod ({ cls := "OlderFirstHeapModel", name := "make", desc := "(II)I" } : Jvm.MethodName)) ∈ lw_all := lw_g (lw_at lw_m1 236 rfl) rfl
theorem q262 : (Jvm.Cond.selects "OlderFirstHeapModel" ({ cls := "OlderFirstHeapModel", name := "make", desc := "(II)I" } : Jvm.MethodName) ({ cls := "OlderFirstHeapModel", name := "make", desc := "(II)I" } : Jvm.MethodName)) ∈ lw_all := lw_g (lw_at lw_m1 237 rfl) rfl
theorem q263 : (Jvm.Cond.code ({ cls := "OlderFirstHeapModel", name := "make", desc := "(II)I" } : Jvm.MethodName) prog_3_method_6_code (5 : Nat) (Option.some Jvm.ClassFile.FieldType.int)) ∈ lw_all := lw_g (lw_at lw_m1 238 rfl) rfl
theorem q264 : (Jvm.Cond.methodLink "OlderFirstHeapModel" (22 : Nat) ({ cls := "OlderFirstHeapModel", name := "isRoot", desc := "(I)Z" } : Jvm.MethodName)) ∈ lw_all := lw_g (lw_at lw_m1 239 rfl) rfl
theorem q265 : (Jvm.Cond.privateMethod ({ cls := "OlderFirstHeapModel", name := "isRoot", desc := "(I)Z" } : Jvm.MethodName)) ∈ lw_tbl := lw_at lw_m2 0 rfl
theorem q266 : (Jvm.Cond.instanceMethod ({ cls := "OlderFirstHeapModel", name := "isRoot", desc := "(I)Z" } : Jvm.MethodName)) ∈ lw_all := lw_g (lw_at lw_m2 1 rfl) rfl
theorem q267 : (Jvm.Cond.code ({ cls := "OlderFirstHeapModel", name := "isRoot", desc := "(I)Z" } : Jvm.MethodName) prog_3_method_2_code (2 : Nat) (Option.some Jvm.ClassFile.FieldType.boolean)) ∈ lw_all := lw_g (lw_at lw_m2 2 rfl) rfl
theorem q268 : (Jvm.Cond.methodLink "OlderFirstHeapModel" (26 : Nat) ({ cls := "OlderFirstHeapModel", name := "reachable", desc := "()I" } : Jvm.MethodName)) ∈ lw_all := lw_g (lw_at lw_m2 3 rfl) rfl
theorem q269 : (Jvm.Cond.instanceMethod ({ cls := "OlderFirstHeapModel", name := "reachable", desc := "()I" } : Jvm.MethodName)) ∈ lw_all := lw_g (lw_at lw_m2 4 rfl) rfl
theorem q270 : (Jvm.Cond.selects "OlderFirstHeapModel" ({ cls := "OlderFirstHeapModel", name := "reachable", desc := "()I" } : Jvm.MethodName) ({ cls := "OlderFirstHeapModel", name := "reachable", desc := "()I" } : Jvm.MethodName)) ∈ lw_all := lw_g (lw_at lw_m2 5 rfl) rfl
theorem q271 : (Jvm.Cond.code ({ cls := "OlderFirstHeapModel", name := "reachable", desc := "()I" } : Jvm.MethodName) prog_3_method_17_code (1 : Nat) (Option.some Jvm.ClassFile.FieldType.int)) ∈ lw_all := lw_g (lw_at lw_m2 6 rfl) rfl
theorem q272 : (Jvm.Cond.methodLink "OlderFirstHeapModel" (41 : Nat) ({ cls := "OlderFirstHeapModel", name := "spread", desc := "(I)V" } : Jvm.MethodName)) ∈ lw_all := lw_g (lw_at lw_m2 7 rfl) rfl
theorem q273 : (Jvm.Cond.privateMethod ({ cls := "OlderFirstHeapModel", name := "spread", desc := "(I)V" } : Jvm.MethodName)) ∈ lw_tbl := lw_at lw_m2 8 rfl
theorem q274 : (Jvm.Cond.instanceMethod ({ cls := "OlderFirstHeapModel", name := "spread", desc := "(I)V" } : Jvm.MethodName)) ∈ lw_all := lw_g (lw_at lw_m2 9 rfl) rfl
theorem q275 : (Jvm.Cond.code ({ cls := "OlderFirstHeapModel", name := "spread", desc := "(I)V" } : Jvm.MethodName) prog_3_method_4_code (6 : Nat) (Option.none : Option Jvm.ClassFile.FieldType)) ∈ lw_all := lw_g (lw_at lw_m2 10 rfl) rfl
theorem q276 : (Jvm.Cond.methodLink "OlderFirstHeapModel" (45 : Nat) ({ cls := "OlderFirstHeapModel", name := "found", desc := "()I" } : Jvm.MethodName)) ∈ lw_all := lw_g (lw_at lw_m2 11 rfl) rfl
theorem q277 : (Jvm.Cond.privateMethod ({ cls := "OlderFirstHeapModel", name := "found", desc := "()I" } : Jvm.MethodName)) ∈ lw_tbl := lw_at lw_m2 12 rfl
theorem q278 : (Jvm.Cond.instanceMethod ({ cls := "OlderFirstHeapModel", name := "found", desc := "()I" } : Jvm.MethodName)) ∈ lw_all := lw_g (lw_at lw_m2 13 rfl) rfl
theorem q279 : (Jvm.Cond.code ({ cls := "OlderFirstHeapModel", name := "found", desc := "()I" } : Jvm.MethodName) prog_3_method_5_code (3 : Nat) (Option.some Jvm.ClassFile.FieldType.int)) ∈ lw_all := lw_g (lw_at lw_m2 14 rfl) rfl
theorem q281 : (Jvm.Cond.instanceMethod ({ cls := "OlderFirstHeapModel", name := "copyRoot", desc := "(II)I" } : Jvm.MethodName)) ∈ lw_all := lw_g (lw_at lw_m2 16 rfl) rfl
theorem q282 : (Jvm.Cond.selects "OlderFirstHeapModel" ({ cls := "OlderFirstHeapModel", name := "copyRoot", desc := "(II)I" } : Jvm.MethodName) ({ cls := "OlderFirstHeapModel", name := "copyRoot", desc := "(II)I" } : Jvm.MethodName)) ∈ lw_all := lw_g (lw_at lw_m2 17 rfl) rfl
theorem q283 : (Jvm.Cond.code ({ cls := "OlderFirstHeapModel", name := "copyRoot", desc := "(II)I" } : Jvm.MethodName) prog_3_method_7_code (3 : Nat) (Option.some Jvm.ClassFile.FieldType.int)) ∈ lw_all := lw_g (lw_at lw_m2 18 rfl) rfl
theorem q285 : (Jvm.Cond.instanceMethod ({ cls := "OlderFirstHeapModel", name := "drop", desc := "(I)I" } : Jvm.MethodName)) ∈ lw_all := lw_g (lw_at lw_m2 20 rfl) rfl
theorem q286 : (Jvm.Cond.selects "OlderFirstHeapModel" ({ cls := "OlderFirstHeapModel", name := "drop", desc := "(I)I" } : Jvm.MethodName) ({ cls := "OlderFirstHeapModel", name := "drop", desc := "(I)I" } : Jvm.MethodName)) ∈ lw_all := lw_g (lw_at lw_m2 21 rfl) rfl
theorem q287 : (Jvm.Cond.code ({ cls := "OlderFirstHeapModel", name := "drop", desc := "(I)I" } : Jvm.MethodName) prog_3_method_8_code (2 : Nat) (Option.some Jvm.ClassFile.FieldType.int)) ∈ lw_all := lw_g (lw_at lw_m2 22 rfl) rfl
theorem q289 : (Jvm.Cond.instanceMethod ({ cls := "OlderFirstHeapModel", name := "load", desc := "(III)I" } : Jvm.MethodName)) ∈ lw_all := lw_g (lw_at lw_m2 24 rfl) rfl
theorem q290 : (Jvm.Cond.selects "OlderFirstHeapModel" ({ cls := "OlderFirstHeapModel", name := "load", desc := "(III)I" } : Jvm.MethodName) ({ cls := "OlderFirstHeapModel", name := "load", desc := "(III)I" } : Jvm.MethodName)) ∈ lw_all := lw_g (lw_at lw_m2 25 rfl) rfl
theorem q291 : (Jvm.Cond.code ({ cls := "OlderFirstHeapModel", name := "load", desc := "(III)I" } : Jvm.MethodName) prog_3_method_10_code (5 : Nat) (Option.some Jvm.ClassFile.FieldType.int)) ∈ lw_all := lw_g (lw_at lw_m2 26 rfl) rfl
theorem q292 : (Jvm.Cond.methodLink "OlderFirstHeapModel" (30 : Nat) ({ cls := "OlderFirstHeapModel", name := "refusal", desc := "(III)I" } : Jvm.MethodName)) ∈ lw_all := lw_g (lw_at lw_m2 27 rfl) rfl
theorem q293 : (Jvm.Cond.privateMethod ({ cls := "OlderFirstHeapModel", name := "refusal", desc := "(III)I" } : Jvm.MethodName)) ∈ lw_tbl := lw_at lw_m2 28 rfl
theorem q294 : (Jvm.Cond.instanceMethod ({ cls := "OlderFirstHeapModel", name := "refusal", desc := "(III)I" } : Jvm.MethodName)) ∈ lw_all := lw_g (lw_at lw_m2 29 rfl) rfl
theorem q295 : (Jvm.Cond.code ({ cls := "OlderFirstHeapModel", name := "refusal", desc := "(III)I" } : Jvm.MethodName) prog_3_method_9_code (4 : Nat) (Option.some Jvm.ClassFile.FieldType.int)) ∈ lw_all := lw_g (lw_at lw_m2 30 rfl) rfl
theorem q297 : (Jvm.Cond.instanceMethod ({ cls := "OlderFirstHeapModel", name := "store", desc := "(III)I" } : Jvm.MethodName)) ∈ lw_all := lw_g (lw_at lw_m2 32 rfl) rfl
theorem q298 : (Jvm.Cond.selects "OlderFirstHeapModel" ({ cls := "OlderFirstHeapModel", name := "store", desc := "(III)I" } : Jvm.MethodName) ({ cls := "OlderFirstHeapModel", name := "store", desc := "(III)I" } : Jvm.MethodName)) ∈ lw_all := lw_g (lw_at lw_m2 33 rfl) rfl
theorem q299 : (Jvm.Cond.code ({ cls := "OlderFirstHeapModel", name := "store", desc := "(III)I" } : Jvm.MethodName) prog_3_method_11_code (5 : Nat) (Option.some Jvm.ClassFile.FieldType.int)) ∈ lw_all := lw_g (lw_at lw_m2 34 rfl) rfl
theorem q301 : (Jvm.Cond.instanceMethod ({ cls := "OlderFirstHeapModel", name := "setPayload", desc := "(II)I" } : Jvm.MethodName)) ∈ lw_all := lw_g (lw_at lw_m2 36 rfl) rfl
theorem q302 : (Jvm.Cond.selects "OlderFirstHeapModel" ({ cls := "OlderFirstHeapModel", name := "setPayload", desc := "(II)I" } : Jvm.MethodName) ({ cls := "OlderFirstHeapModel", name := "setPayload", desc := "(II)I" } : Jvm.MethodName)) ∈ lw_all := lw_g (lw_at lw_m2 37 rfl) rfl
theorem q303 : (Jvm.Cond.code ({ cls := "OlderFirstHeapModel", name := "setPayload", desc := "(II)I" } : Jvm.MethodName) prog_3_method_12_code (4 : Nat) (Option.some Jvm.ClassFile.FieldType.int)) ∈ lw_all := lw_g (lw_at lw_m2 38 rfl) rfl
theorem q305 : (Jvm.Cond.instanceMethod ({ cls := "OlderFirstHeapModel", name := "collect", desc := "()V" } : Jvm.MethodName)) ∈ lw_all := lw_g (lw_at lw_m2 40 rfl) rfl
theorem q306 : (Jvm.Cond.selects "OlderFirstHeapModel" ({ cls := "OlderFirstHeapModel", name := "collect", desc := "()V" } : Jvm.MethodName) ({ cls := "OlderFirstHeapModel", name := "collect", desc := "()V" } : Jvm.MethodName)) ∈ lw_all := lw_g (lw_at lw_m2 41 rfl) rfl
theorem q307 : (Jvm.Cond.code ({ cls := "OlderFirstHeapModel", name := "collect", desc := "()V" } : Jvm.MethodName) prog_3_method_13_code (1 : Nat) (Option.none : Option Jvm.ClassFile.FieldType)) ∈ lw_all := lw_g (lw_at lw_m2 42 rfl) rfl
theorem q309 : (Jvm.Cond.instanceMethod ({ cls := "OlderFirstHeapModel", name := "payload", desc := "(I)I" } : Jvm.MethodName)) ∈ lw_all := lw_g (lw_at lw_m2 44 rfl) rfl
theorem q310 : (Jvm.Cond.selects "OlderFirstHeapModel" ({ cls := "OlderFirstHeapModel", name := "payload", desc := "(I)I" } : Jvm.MethodName) ({ cls := "OlderFirstHeapModel", name := "payload", desc := "(I)I" } : Jvm.MethodName)) ∈ lw_all := lw_g (lw_at lw_m2 45 rfl) rfl
theorem q311 : (Jvm.Cond.code ({ cls := "OlderFirstHeapModel", name := "payload", desc := "(I)I" } : Jvm.MethodName) prog_3_method_14_code (3 : Nat) (Option.some Jvm.ClassFile.FieldType.int)) ∈ lw_all := lw_g (lw_at lw_m2 46 rfl) rfl
theorem q312 : (Jvm.Cond.methodLink "OlderFirstHeapModel" (34 : Nat) ({ cls := "OlderFirstHeapModel", name := "objectOf", desc := "(I)I" } : Jvm.MethodName)) ∈ lw_all := lw_g (lw_at lw_m2 47 rfl) rfl
theorem q313 : (Jvm.Cond.privateMethod ({ cls := "OlderFirstHeapModel", name := "objectOf", desc := "(I)I" } : Jvm.MethodName)) ∈ lw_tbl := lw_at lw_m2 48 rfl
theorem q314 : (Jvm.Cond.instanceMethod ({ cls := "OlderFirstHeapModel", name := "objectOf", desc := "(I)I" } : Jvm.MethodName)) ∈ lw_all := lw_g (lw_at lw_m2 49 rfl) rfl
theorem q315 : (Jvm.Cond.code ({ cls := "OlderFirstHeapModel", name := "objectOf", desc := "(I)I" } : Jvm.MethodName) prog_3_method_3_code (2 : Nat) (Option.some Jvm.ClassFile.FieldType.int)) ∈ lw_all := lw_g (lw_at lw_m2 50 rfl) rfl
theorem q317 : (Jvm.Cond.instanceMethod ({ cls := "OlderFirstHeapModel", name := "held", desc := "(I)Z" } : Jvm.MethodName)) ∈ lw_all := lw_g (lw_at lw_m2 52 rfl) rfl
theorem q318 : (Jvm.Cond.selects "OlderFirstHeapModel" ({ cls := "OlderFirstHeapModel", name := "held", desc := "(I)Z" } : Jvm.MethodName) ({ cls := "OlderFirstHeapModel", name := "held", desc := "(I)Z" } : Jvm.MethodName)) ∈ lw_all := lw_g (lw_at lw_m2 53 rfl) rfl
theorem q319 : (Jvm.Cond.code ({ cls := "OlderFirstHeapModel", name := "held", desc := "(I)Z" } : Jvm.MethodName) prog_3_method_15_code (2 : Nat) (Option.some Jvm.ClassFile.FieldType.boolean)) ∈ lw_all := lw_g (lw_at lw_m2 54 rfl) rfl
theorem q321 : (Jvm.Cond.instanceMethod ({ cls := "OlderFirstHeapModel", name := "same", desc := "(II)Z" } : Jvm.MethodName)) ∈ lw_all := lw_g (lw_at lw_m2 56 rfl) rfl
theorem q322 : (Jvm.Cond.selects "OlderFirstHeapModel" ({ cls := "OlderFirstHeapModel", name := "same", desc := "(II)Z" } : Jvm.MethodName) ({ cls := "OlderFirstHeapModel", name := "same", desc := "(II)Z" } : Jvm.MethodName)) ∈ lw_all := lw_g (lw_at lw_m2 57 rfl) rfl
theorem q323 : (Jvm.Cond.code ({ cls := "OlderFirstHeapModel", name := "same", desc := "(II)Z" } : Jvm.MethodName) prog_3_method_16_code (3 : Nat) (Option.some Jvm.ClassFile.FieldType.boolean)) ∈ lw_all := lw_g (lw_at lw_m2 58 rfl) rfl
theorem q324 : (Jvm.Cond.methodLink "OlderFirstHeapModel" (38 : Nat) ({ cls := "OlderFirstHeapModel", name := "held", desc := "(I)Z" } : Jvm.MethodName)) ∈ lw_all := lw_g (lw_at lw_m2 59 rfl) rfl
theorem q327 : (Jvm.Cond.instanceMethod ({ cls := "OlderFirstHeapModel", name := "reachableFrom", desc := "(I)I" } : Jvm.MethodName)) ∈ lw_all := lw_g (lw_at lw_m2 62 rfl) rfl
theorem q328 : (Jvm.Cond.selects "OlderFirstHeapModel" ({ cls := "OlderFirstHeapModel", name := "reachableFrom", desc := "(I)I" } : Jvm.MethodName) ({ cls := "OlderFirstHeapModel", name := "reachableFrom", desc := "(I)I" } : Jvm.MethodName)) ∈ lw_all := lw_g (lw_at lw_m2 63 rfl) rfl
theorem q329 : (Jvm.Cond.code ({ cls := "OlderFirstHeapModel", name := "reachableFrom", desc := "(I)I" } : Jvm.MethodName) prog_3_method_18_code (2 : Nat) (Option.some Jvm.ClassFile.FieldType.int)) ∈ lw_all := lw_g (lw_at lw_m2 64 rfl) rfl
theorem q331 : (Jvm.Cond.instanceMethod ({ cls := "OlderFirstHeapModel", name := "distance", desc := "(II)I" } : Jvm.MethodName)) ∈ lw_all := lw_g (lw_at lw_m2 66 rfl) rfl
theorem q332 : (Jvm.Cond.selects "OlderFirstHeapModel" ({ cls := "OlderFirstHeapModel", name := "distance", desc := "(II)I" } : Jvm.MethodName) ({ cls := "OlderFirstHeapModel", name := "distance", desc := "(II)I" } : Jvm.MethodName)) ∈ lw_all := lw_g (lw_at lw_m2 67 rfl) rfl
theorem q333 : (Jvm.Cond.code ({ cls := "OlderFirstHeapModel", name := "distance", desc := "(II)I" } : Jvm.MethodName) prog_3_method_19_code (3 : Nat) (Option.some Jvm.ClassFile.FieldType.int)) ∈ lw_all := lw_g (lw_at lw_m2 68 rfl) rfl
theorem q335 : (Jvm.Cond.instanceMethod ({ cls := "OlderFirstHeapModel", name := "sum", desc := "()I" } : Jvm.MethodName)) ∈ lw_all := lw_g (lw_at lw_m2 70 rfl) rfl
theorem q336 : (Jvm.Cond.selects "OlderFirstHeapModel" ({ cls := "OlderFirstHeapModel", name := "sum", desc := "()I" } : Jvm.MethodName) ({ cls := "OlderFirstHeapModel", name := "sum", desc := "()I" } : Jvm.MethodName)) ∈ lw_all := lw_g (lw_at lw_m2 71 rfl) rfl
theorem q337 : (Jvm.Cond.code ({ cls := "OlderFirstHeapModel", name := "sum", desc := "()I" } : Jvm.MethodName) prog_3_method_20_code (3 : Nat) (Option.some Jvm.ClassFile.FieldType.int)) ∈ lw_all := lw_g (lw_at lw_m2 72 rfl) rfl
theorem in_X2 : ∀ w ∈ wsX20, w ∈ lw_all := lw_in wsX20 [251, 253, 255, 257] (by decide +kernel) (by decide +kernel)
theorem q91 : (Jvm.Cond.arrayClass Jvm.ClassFile.FieldType.int) ∈ lw_all := lw_g (lw_at lw_m1 66 rfl) rfl
theorem q92 : (Jvm.Cond.arrayClass Jvm.ClassFile.FieldType.boolean) ∈ lw_all := lw_g (lw_at lw_m1 67 rfl) rfl
theorem q93 : (Jvm.Cond.arrayClass Jvm.ClassFile.FieldType.long) ∈ lw_all := lw_g (lw_at lw_m1 68 rfl) rfl
abbrev cL_law : ByteArray := code
end
section
set_option maxRecDepth 100000
theorem dX1_init_0 : decode cX1_init 0 = .ok (.aload_n 0, 1) := by decide +kernel
theorem dX1_init_1 : decode cX1_init 1 = .ok (.invokespecial 1, 3) := by decide +kernel
theorem dX1_init_4 : decode cX1_init 4 = .ok (.aload_n 0, 1) := by decide +kernel
theorem dX1_init_5 : decode cX1_init 5 = .ok (.bipush 8, 2) := by decide +kernel
theorem dX1_init_7 : decode cX1_init 7 = .ok (.newarray .int, 2) := by decide +kernel
theorem dX1_init_9 : decode cX1_init 9 = .ok (.putfield 7, 3) := by decide +kernel
theorem dX1_init_12 : decode cX1_init 12 = .ok (.aload_n 0, 1) := by decide +kernel
theorem dX1_init_13 : decode cX1_init 13 = .ok (.bipush 64, 2) := by decide +kernel
theorem dX1_init_15 : decode cX1_init 15 = .ok (.newarray .boolean, 2) := by decide +kernel
theorem dX1_init_17 : decode cX1_init 17 = .ok (.putfield 13, 3) := by decide +kernel
theorem dX1_init_20 : decode cX1_init 20 = .ok (.aload_n 0, 1) := by decide +kernel
theorem dX1_init_21 : decode cX1_init 21 = .ok (.bipush 64, 2) := by decide +kernel
theorem dX1_init_23 : decode cX1_init 23 = .ok (.newarray .int, 2) := by decide +kernel
theorem dX1_init_25 : decode cX1_init 25 = .ok (.putfield 17, 3) := by decide +kernel
theorem dX1_init_28 : decode cX1_init 28 = .ok (.aload_n 0, 1) := by decide +kernel
theorem dX1_init_29 : decode cX1_init 29 = .ok (.sipush 192, 3) := by decide +kernel
theorem dX1_init_32 : decode cX1_init 32 = .ok (.newarray .int, 2) := by decide +kernel
theorem dX1_init_34 : decode cX1_init 34 = .ok (.putfield 20, 3) := by decide +kernel
theorem dX1_init_37 : decode cX1_init 37 = .ok (.aload_n 0, 1) := by decide +kernel
theorem dX1_init_38 : decode cX1_init 38 = .ok (.bipush 8, 2) := by decide +kernel
theorem dX1_init_40 : decode cX1_init 40 = .ok (.newarray .int, 2) := by decide +kernel
theorem dX1_init_42 : decode cX1_init 42 = .ok (.putfield 23, 3) := by decide +kernel
theorem dX1_init_45 : decode cX1_init 45 = .ok (.aload_n 0, 1) := by decide +kernel
theorem dX1_init_46 : decode cX1_init 46 = .ok (.bipush 8, 2) := by decide +kernel
theorem dX1_init_48 : decode cX1_init 48 = .ok (.newarray .long, 2) := by decide +kernel
theorem dX1_init_50 : decode cX1_init 50 = .ok (.putfield 26, 3) := by decide +kernel
theorem dX1_init_53 : decode cX1_init 53 = .ok (.aload_n 0, 1) := by decide +kernel
theorem dX1_init_54 : decode cX1_init 54 = .ok (.bipush 64, 2) := by decide +kernel
theorem dX1_init_56 : decode cX1_init 56 = .ok (.newarray .int, 2) := by decide +kernel
theorem dX1_init_58 : decode cX1_init 58 = .ok (.putfield 30, 3) := by decide +kernel
theorem dX1_init_61 : decode cX1_init 61 = .ok (.aload_n 0, 1) := by decide +kernel
theorem dX1_init_62 : decode cX1_init 62 = .ok (.bipush 64, 2) := by decide +kernel
theorem dX1_init_64 : decode cX1_init 64 = .ok (.newarray .int, 2) := by decide +kernel
theorem dX1_init_66 : decode cX1_init 66 = .ok (.putfield 33, 3) := by decide +kernel
theorem dX1_init_69 : decode cX1_init 69 = .ok (.aload_n 0, 1) := by decide +kernel
theorem dX1_init_70 : decode cX1_init 70 = .ok (.bipush 64, 2) := by decide +kernel
theorem dX1_init_72 : decode cX1_init 72 = .ok (.newarray .int, 2) := by decide +kernel
theorem dX1_init_74 : decode cX1_init 74 = .ok (.putfield 36, 3) := by decide +kernel
theorem dX1_init_77 : decode cX1_init 77 = .ok (.aload_n 0, 1) := by decide +kernel
theorem dX1_init_78 : decode cX1_init 78 = .ok (.bipush 64, 2) := by decide +kernel
theorem dX1_init_80 : decode cX1_init 80 = .ok (.newarray .int, 2) := by decide +kernel
theorem dX1_init_82 : decode cX1_init 82 = .ok (.putfield 39, 3) := by decide +kernel
theorem dX1_init_85 : decode cX1_init 85 = .ok (.aload_n 0, 1) := by decide +kernel
theorem dX1_init_86 : decode cX1_init 86 = .ok (.bipush 64, 2) := by decide +kernel
theorem dX1_init_88 : decode cX1_init 88 = .ok (.newarray .int, 2) := by decide +kernel
theorem dX1_init_90 : decode cX1_init 90 = .ok (.putfield 42, 3) := by decide +kernel
theorem dX1_init_93 : decode cX1_init 93 = .ok (.aload_n 0, 1) := by decide +kernel
theorem dX1_init_94 : decode cX1_init 94 = .ok (.sipush 192, 3) := by decide +kernel
theorem dX1_init_97 : decode cX1_init 97 = .ok (.newarray .int, 2) := by decide +kernel
theorem dX1_init_99 : decode cX1_init 99 = .ok (.putfield 45, 3) := by decide +kernel
theorem dX1_init_102 : decode cX1_init 102 = .ok (.iload_n 1, 1) := by decide +kernel
theorem dX1_init_103 : decode cX1_init 103 = .ok (.istore_n 2, 1) := by decide +kernel
theorem dX1_init_104 : decode cX1_init 104 = .ok (.iload_n 2, 1) := by decide +kernel
theorem dX1_init_105 : decode cX1_init 105 = .ok (.iconst 1, 1) := by decide +kernel
theorem dX1_init_106 : decode cX1_init 106 = .ok (.if_icmp .ge 5, 3) := by decide +kernel
theorem dX1_init_109 : decode cX1_init 109 = .ok (.iconst 1, 1) := by decide +kernel
theorem dX1_init_110 : decode cX1_init 110 = .ok (.istore_n 2, 1) := by decide +kernel
theorem dX1_init_111 : decode cX1_init 111 = .ok (.iload_n 2, 1) := by decide +kernel
theorem dX1_init_112 : decode cX1_init 112 = .ok (.bipush 8, 2) := by decide +kernel
theorem dX1_init_114 : decode cX1_init 114 = .ok (.if_icmp .le 6, 3) := by decide +kernel
theorem dX1_init_117 : decode cX1_init 117 = .ok (.bipush 8, 2) := by decide +kernel
theorem dX1_init_119 : decode cX1_init 119 = .ok (.istore_n 2, 1) := by decide +kernel
theorem dX1_init_120 : decode cX1_init 120 = .ok (.aload_n 0, 1) := by decide +kernel
theorem dX1_init_121 : decode cX1_init 121 = .ok (.iload_n 2, 1) := by decide +kernel
theorem dX1_init_122 : decode cX1_init 122 = .ok (.putfield 48, 3) := by decide +kernel
theorem dX1_init_125 : decode cX1_init 125 = .ok (.aload_n 0, 1) := by decide +kernel
theorem dX1_init_126 : decode cX1_init 126 = .ok (.iconst 1, 1) := by decide +kernel
theorem dX1_init_127 : decode cX1_init 127 = .ok (.putfield 52, 3) := by decide +kernel
theorem dX1_init_130 : decode cX1_init 130 = .ok (.return_, 1) := by decide +kernel
theorem dX1_make_0 : decode cX1_make 0 = .ok (.iload_n 1, 1) := by decide +kernel
theorem dX1_make_1 : decode cX1_make 1 = .ok (.invokestatic 131, 3) := by decide +kernel
theorem dX1_make_4 : decode cX1_make 4 = .ok (.ifCond .eq 5, 3) := by decide +kernel
theorem dX1_make_7 : decode cX1_make 7 = .ok (.iconst (-1), 1) := by decide +kernel
theorem dX1_make_8 : decode cX1_make 8 = .ok (.ireturn, 1) := by decide +kernel
theorem dX1_make_9 : decode cX1_make 9 = .ok (.aload_n 0, 1) := by decide +kernel
theorem dX1_make_10 : decode cX1_make 10 = .ok (.invokevirtual 116, 3) := by decide +kernel
theorem dX1_make_13 : decode cX1_make 13 = .ok (.aload_n 0, 1) := by decide +kernel
theorem dX1_make_14 : decode cX1_make 14 = .ok (.getfield 55, 3) := by decide +kernel
theorem dX1_make_17 : decode cX1_make 17 = .ok (.bipush 24, 2) := by decide +kernel
theorem dX1_make_19 : decode cX1_make 19 = .ok (.if_icmp .lt 6, 3) := by decide +kernel
theorem dX1_make_22 : decode cX1_make 22 = .ok (.bipush (-4), 2) := by decide +kernel
theorem dX1_make_24 : decode cX1_make 24 = .ok (.ireturn, 1) := by decide +kernel
theorem dX1_make_25 : decode cX1_make 25 = .ok (.aload_n 0, 1) := by decide +kernel
theorem dX1_make_26 : decode cX1_make 26 = .ok (.invokevirtual 134, 3) := by decide +kernel
theorem dX1_make_29 : decode cX1_make 29 = .ok (.istore_n 3, 1) := by decide +kernel
theorem dX1_make_30 : decode cX1_make 30 = .ok (.aload_n 0, 1) := by decide +kernel
theorem dX1_make_31 : decode cX1_make 31 = .ok (.getfield 17, 3) := by decide +kernel
theorem dX1_make_34 : decode cX1_make 34 = .ok (.iload_n 3, 1) := by decide +kernel
theorem dX1_make_35 : decode cX1_make 35 = .ok (.iload_n 2, 1) := by decide +kernel
theorem dX1_make_36 : decode cX1_make 36 = .ok (.iastore, 1) := by decide +kernel
theorem dX1_make_37 : decode cX1_make 37 = .ok (.iconst 0, 1) := by decide +kernel
theorem dX1_make_38 : decode cX1_make 38 = .ok (.istore 4, 2) := by decide +kernel
theorem dX1_make_40 : decode cX1_make 40 = .ok (.iload 4, 2) := by decide +kernel
theorem dX1_make_42 : decode cX1_make 42 = .ok (.iconst 3, 1) := by decide +kernel
theorem dX1_make_43 : decode cX1_make 43 = .ok (.if_icmp .ge 21, 3) := by decide +kernel
theorem dX1_make_46 : decode cX1_make 46 = .ok (.aload_n 0, 1) := by decide +kernel
theorem dX1_make_47 : decode cX1_make 47 = .ok (.getfield 20, 3) := by decide +kernel
theorem dX1_make_50 : decode cX1_make 50 = .ok (.iload_n 3, 1) := by decide +kernel
theorem dX1_make_51 : decode cX1_make 51 = .ok (.iconst 3, 1) := by decide +kernel
theorem dX1_make_52 : decode cX1_make 52 = .ok (.imul, 1) := by decide +kernel
theorem dX1_make_53 : decode cX1_make 53 = .ok (.iload 4, 2) := by decide +kernel
theorem dX1_make_55 : decode cX1_make 55 = .ok (.iadd, 1) := by decide +kernel
theorem dX1_make_56 : decode cX1_make 56 = .ok (.iconst 0, 1) := by decide +kernel
theorem dX1_make_57 : decode cX1_make 57 = .ok (.iastore, 1) := by decide +kernel
theorem dX1_make_58 : decode cX1_make 58 = .ok (.iinc 4 1, 3) := by decide +kernel
theorem dX1_make_61 : decode cX1_make 61 = .ok (.goto (-21), 3) := by decide +kernel
theorem dX1_make_64 : decode cX1_make 64 = .ok (.aload_n 0, 1) := by decide +kernel
theorem dX1_make_65 : decode cX1_make 65 = .ok (.getfield 7, 3) := by decide +kernel
theorem dX1_make_68 : decode cX1_make 68 = .ok (.iload_n 1, 1) := by decide +kernel
theorem dX1_make_69 : decode cX1_make 69 = .ok (.iload_n 3, 1) := by decide +kernel
theorem dX1_make_70 : decode cX1_make 70 = .ok (.iconst 1, 1) := by decide +kernel
theorem dX1_make_71 : decode cX1_make 71 = .ok (.iadd, 1) := by decide +kernel
theorem dX1_make_72 : decode cX1_make 72 = .ok (.iastore, 1) := by decide +kernel
theorem dX1_make_73 : decode cX1_make 73 = .ok (.iconst 0, 1) := by decide +kernel
theorem dX1_make_74 : decode cX1_make 74 = .ok (.ireturn, 1) := by decide +kernel
theorem dX1_badRoot_0 : decode cX1_badRoot 0 = .ok (.iload_n 0, 1) := by decide +kernel
theorem dX1_badRoot_1 : decode cX1_badRoot 1 = .ok (.ifCond .lt 9, 3) := by decide +kernel
theorem dX1_badRoot_4 : decode cX1_badRoot 4 = .ok (.iload_n 0, 1) := by decide +kernel
theorem dX1_badRoot_5 : decode cX1_badRoot 5 = .ok (.bipush 8, 2) := by decide +kernel
theorem dX1_badRoot_7 : decode cX1_badRoot 7 = .ok (.if_icmp .lt 7, 3) := by decide +kernel
theorem dX1_badRoot_10 : decode cX1_badRoot 10 = .ok (.iconst 1, 1) := by decide +kernel
theorem dX1_badRoot_11 : decode cX1_badRoot 11 = .ok (.goto 4, 3) := by decide +kernel
theorem dX1_badRoot_14 : decode cX1_badRoot 14 = .ok (.iconst 0, 1) := by decide +kernel
theorem dX1_badRoot_15 : decode cX1_badRoot 15 = .ok (.ireturn, 1) := by decide +kernel
theorem dX1_walkFromRoots_0 : decode cX1_walkFromRoots 0 = .ok (.aload_n 0, 1) := by decide +kernel
theorem dX1_walkFromRoots_1 : decode cX1_walkFromRoots 1 = .ok (.invokevirtual 62, 3) := by decide +kernel
theorem dX1_walkFromRoots_4 : decode cX1_walkFromRoots 4 = .ok (.iconst 0, 1) := by decide +kernel
theorem dX1_walkFromRoots_5 : decode cX1_walkFromRoots 5 = .ok (.istore_n 1, 1) := by decide +kernel
theorem dX1_walkFromRoots_6 : decode cX1_walkFromRoots 6 = .ok (.iload_n 1, 1) := by decide +kernel
theorem dX1_walkFromRoots_7 : decode cX1_walkFromRoots 7 = .ok (.bipush 8, 2) := by decide +kernel
theorem dX1_walkFromRoots_9 : decode cX1_walkFromRoots 9 = .ok (.if_icmp .ge 20, 3) := by decide +kernel
theorem dX1_walkFromRoots_12 : decode cX1_walkFromRoots 12 = .ok (.aload_n 0, 1) := by decide +kernel
theorem dX1_walkFromRoots_13 : decode cX1_walkFromRoots 13 = .ok (.aload_n 0, 1) := by decide +kernel
theorem dX1_walkFromRoots_14 : decode cX1_walkFromRoots 14 = .ok (.getfield 7, 3) := by decide +kernel
theorem dX1_walkFromRoots_17 : decode cX1_walkFromRoots 17 = .ok (.iload_n 1, 1) := by decide +kernel
theorem dX1_walkFromRoots_18 : decode cX1_walkFromRoots 18 = .ok (.iaload, 1) := by decide +kernel
theorem dX1_walkFromRoots_19 : decode cX1_walkFromRoots 19 = .ok (.iconst 0, 1) := by decide +kernel
theorem dX1_walkFromRoots_20 : decode cX1_walkFromRoots 20 = .ok (.invokevirtual 58, 3) := by decide +kernel
theorem dX1_walkFromRoots_23 : decode cX1_walkFromRoots 23 = .ok (.iinc 1 1, 3) := by decide +kernel
theorem dX1_walkFromRoots_26 : decode cX1_walkFromRoots 26 = .ok (.goto (-20), 3) := by decide +kernel
theorem dX1_walkFromRoots_29 : decode cX1_walkFromRoots 29 = .ok (.aload_n 0, 1) := by decide +kernel
theorem dX1_walkFromRoots_30 : decode cX1_walkFromRoots 30 = .ok (.invokevirtual 65, 3) := by decide +kernel
theorem dX1_walkFromRoots_33 : decode cX1_walkFromRoots 33 = .ok (.return_, 1) := by decide +kernel
theorem dX1_startWalk_0 : decode cX1_startWalk 0 = .ok (.iconst 0, 1) := by decide +kernel
theorem dX1_startWalk_1 : decode cX1_startWalk 1 = .ok (.istore_n 1, 1) := by decide +kernel
theorem dX1_startWalk_2 : decode cX1_startWalk 2 = .ok (.iload_n 1, 1) := by decide +kernel
theorem dX1_startWalk_3 : decode cX1_startWalk 3 = .ok (.bipush 64, 2) := by decide +kernel
theorem dX1_startWalk_5 : decode cX1_startWalk 5 = .ok (.if_icmp .ge 16, 3) := by decide +kernel
theorem dX1_startWalk_8 : decode cX1_startWalk 8 = .ok (.aload_n 0, 1) := by decide +kernel
theorem dX1_startWalk_9 : decode cX1_startWalk 9 = .ok (.getfield 36, 3) := by decide +kernel
theorem dX1_startWalk_12 : decode cX1_startWalk 12 = .ok (.iload_n 1, 1) := by decide +kernel
theorem dX1_startWalk_13 : decode cX1_startWalk 13 = .ok (.iconst (-1), 1) := by decide +kernel
theorem dX1_startWalk_14 : decode cX1_startWalk 14 = .ok (.iastore, 1) := by decide +kernel
theorem dX1_startWalk_15 : decode cX1_startWalk 15 = .ok (.iinc 1 1, 3) := by decide +kernel
theorem dX1_startWalk_18 : decode cX1_startWalk 18 = .ok (.goto (-16), 3) := by decide +kernel
theorem dX1_startWalk_21 : decode cX1_startWalk 21 = .ok (.aload_n 0, 1) := by decide +kernel
theorem dX1_startWalk_22 : decode cX1_startWalk 22 = .ok (.iconst 0, 1) := by decide +kernel
theorem dX1_startWalk_23 : decode cX1_startWalk 23 = .ok (.putfield 55, 3) := by decide +kernel
theorem dX1_startWalk_26 : decode cX1_startWalk 26 = .ok (.return_, 1) := by decide +kernel
theorem dX1_visit_0 : decode cX1_visit 0 = .ok (.iload_n 1, 1) := by decide +kernel
theorem dX1_visit_1 : decode cX1_visit 1 = .ok (.ifCond .eq 14, 3) := by decide +kernel
theorem dX1_visit_4 : decode cX1_visit 4 = .ok (.aload_n 0, 1) := by decide +kernel
theorem dX1_visit_5 : decode cX1_visit 5 = .ok (.getfield 36, 3) := by decide +kernel
theorem dX1_visit_8 : decode cX1_visit 8 = .ok (.iload_n 1, 1) := by decide +kernel
theorem dX1_visit_9 : decode cX1_visit 9 = .ok (.iconst 1, 1) := by decide +kernel
theorem dX1_visit_10 : decode cX1_visit 10 = .ok (.isub, 1) := by decide +kernel
theorem dX1_visit_11 : decode cX1_visit 11 = .ok (.iaload, 1) := by decide +kernel
theorem dX1_visit_12 : decode cX1_visit 12 = .ok (.ifCond .lt 4, 3) := by decide +kernel
theorem dX1_visit_15 : decode cX1_visit 15 = .ok (.return_, 1) := by decide +kernel
theorem dX1_visit_16 : decode cX1_visit 16 = .ok (.aload_n 0, 1) := by decide +kernel
theorem dX1_visit_17 : decode cX1_visit 17 = .ok (.getfield 36, 3) := by decide +kernel
theorem dX1_visit_20 : decode cX1_visit 20 = .ok (.iload_n 1, 1) := by decide +kernel
theorem dX1_visit_21 : decode cX1_visit 21 = .ok (.iconst 1, 1) := by decide +kernel
theorem dX1_visit_22 : decode cX1_visit 22 = .ok (.isub, 1) := by decide +kernel
theorem dX1_visit_23 : decode cX1_visit 23 = .ok (.iload_n 2, 1) := by decide +kernel
theorem dX1_visit_24 : decode cX1_visit 24 = .ok (.iastore, 1) := by decide +kernel
theorem dX1_visit_25 : decode cX1_visit 25 = .ok (.aload_n 0, 1) := by decide +kernel
theorem dX1_visit_26 : decode cX1_visit 26 = .ok (.getfield 39, 3) := by decide +kernel
theorem dX1_visit_29 : decode cX1_visit 29 = .ok (.aload_n 0, 1) := by decide +kernel
theorem dX1_visit_30 : decode cX1_visit 30 = .ok (.getfield 55, 3) := by decide +kernel
theorem dX1_visit_33 : decode cX1_visit 33 = .ok (.iload_n 1, 1) := by decide +kernel
theorem dX1_visit_34 : decode cX1_visit 34 = .ok (.iconst 1, 1) := by decide +kernel
theorem dX1_visit_35 : decode cX1_visit 35 = .ok (.isub, 1) := by decide +kernel
theorem dX1_visit_36 : decode cX1_visit 36 = .ok (.iastore, 1) := by decide +kernel
theorem dX1_visit_37 : decode cX1_visit 37 = .ok (.aload_n 0, 1) := by decide +kernel
theorem dX1_visit_38 : decode cX1_visit 38 = .ok (.dup, 1) := by decide +kernel
theorem dX1_visit_39 : decode cX1_visit 39 = .ok (.getfield 55, 3) := by decide +kernel
theorem dX1_visit_42 : decode cX1_visit 42 = .ok (.iconst 1, 1) := by decide +kernel
theorem dX1_visit_43 : decode cX1_visit 43 = .ok (.iadd, 1) := by decide +kernel
theorem dX1_visit_44 : decode cX1_visit 44 = .ok (.putfield 55, 3) := by decide +kernel
theorem dX1_visit_47 : decode cX1_visit 47 = .ok (.return_, 1) := by decide +kernel
theorem dX1_finishWalk_0 : decode cX1_finishWalk 0 = .ok (.iconst 0, 1) := by decide +kernel
theorem dX1_finishWalk_1 : decode cX1_finishWalk 1 = .ok (.istore_n 1, 1) := by decide +kernel
theorem dX1_finishWalk_2 : decode cX1_finishWalk 2 = .ok (.iload_n 1, 1) := by decide +kernel
theorem dX1_finishWalk_3 : decode cX1_finishWalk 3 = .ok (.aload_n 0, 1) := by decide +kernel
theorem dX1_finishWalk_4 : decode cX1_finishWalk 4 = .ok (.getfield 55, 3) := by decide +kernel
theorem dX1_finishWalk_7 : decode cX1_finishWalk 7 = .ok (.if_icmp .ge 57, 3) := by decide +kernel
theorem dX1_finishWalk_10 : decode cX1_finishWalk 10 = .ok (.iload_n 1, 1) := by decide +kernel
theorem dX1_finishWalk_11 : decode cX1_finishWalk 11 = .ok (.bipush 64, 2) := by decide +kernel
theorem dX1_finishWalk_13 : decode cX1_finishWalk 13 = .ok (.if_icmp .ge 51, 3) := by decide +kernel
theorem dX1_finishWalk_16 : decode cX1_finishWalk 16 = .ok (.aload_n 0, 1) := by decide +kernel
theorem dX1_finishWalk_17 : decode cX1_finishWalk 17 = .ok (.getfield 39, 3) := by decide +kernel
theorem dX1_finishWalk_20 : decode cX1_finishWalk 20 = .ok (.iload_n 1, 1) := by decide +kernel
theorem dX1_finishWalk_21 : decode cX1_finishWalk 21 = .ok (.iaload, 1) := by decide +kernel
theorem dX1_finishWalk_22 : decode cX1_finishWalk 22 = .ok (.istore_n 2, 1) := by decide +kernel
theorem dX1_finishWalk_23 : decode cX1_finishWalk 23 = .ok (.iconst 0, 1) := by decide +kernel
theorem dX1_finishWalk_24 : decode cX1_finishWalk 24 = .ok (.istore_n 3, 1) := by decide +kernel
theorem dX1_finishWalk_25 : decode cX1_finishWalk 25 = .ok (.iload_n 3, 1) := by decide +kernel
theorem dX1_finishWalk_26 : decode cX1_finishWalk 26 = .ok (.iconst 3, 1) := by decide +kernel
theorem dX1_finishWalk_27 : decode cX1_finishWalk 27 = .ok (.if_icmp .ge 31, 3) := by decide +kernel
theorem dX1_finishWalk_30 : decode cX1_finishWalk 30 = .ok (.aload_n 0, 1) := by decide +kernel
theorem dX1_finishWalk_31 : decode cX1_finishWalk 31 = .ok (.aload_n 0, 1) := by decide +kernel
theorem dX1_finishWalk_32 : decode cX1_finishWalk 32 = .ok (.getfield 20, 3) := by decide +kernel
theorem dX1_finishWalk_35 : decode cX1_finishWalk 35 = .ok (.iload_n 2, 1) := by decide +kernel
theorem dX1_finishWalk_36 : decode cX1_finishWalk 36 = .ok (.iconst 3, 1) := by decide +kernel
theorem dX1_finishWalk_37 : decode cX1_finishWalk 37 = .ok (.imul, 1) := by decide +kernel
theorem dX1_finishWalk_38 : decode cX1_finishWalk 38 = .ok (.iload_n 3, 1) := by decide +kernel
theorem dX1_finishWalk_39 : decode cX1_finishWalk 39 = .ok (.iadd, 1) := by decide +kernel
theorem dX1_finishWalk_40 : decode cX1_finishWalk 40 = .ok (.iaload, 1) := by decide +kernel
theorem dX1_finishWalk_41 : decode cX1_finishWalk 41 = .ok (.aload_n 0, 1) := by decide +kernel
theorem dX1_finishWalk_42 : decode cX1_finishWalk 42 = .ok (.getfield 36, 3) := by decide +kernel
theorem dX1_finishWalk_45 : decode cX1_finishWalk 45 = .ok (.iload_n 2, 1) := by decide +kernel
theorem dX1_finishWalk_46 : decode cX1_finishWalk 46 = .ok (.iaload, 1) := by decide +kernel
theorem dX1_finishWalk_47 : decode cX1_finishWalk 47 = .ok (.iconst 1, 1) := by decide +kernel
theorem dX1_finishWalk_48 : decode cX1_finishWalk 48 = .ok (.iadd, 1) := by decide +kernel
theorem dX1_finishWalk_49 : decode cX1_finishWalk 49 = .ok (.invokevirtual 58, 3) := by decide +kernel
theorem dX1_finishWalk_52 : decode cX1_finishWalk 52 = .ok (.iinc 3 1, 3) := by decide +kernel
theorem dX1_finishWalk_55 : decode cX1_finishWalk 55 = .ok (.goto (-30), 3) := by decide +kernel
theorem dX1_finishWalk_58 : decode cX1_finishWalk 58 = .ok (.iinc 1 1, 3) := by decide +kernel
theorem dX1_finishWalk_61 : decode cX1_finishWalk 61 = .ok (.goto (-59), 3) := by decide +kernel
theorem dX1_finishWalk_64 : decode cX1_finishWalk 64 = .ok (.return_, 1) := by decide +kernel
theorem dX1_newSlot_0 : decode cX1_newSlot 0 = .ok (.iconst 0, 1) := by decide +kernel
theorem dX1_newSlot_1 : decode cX1_newSlot 1 = .ok (.istore_n 1, 1) := by decide +kernel
theorem dX1_newSlot_2 : decode cX1_newSlot 2 = .ok (.iload_n 1, 1) := by decide +kernel
theorem dX1_newSlot_3 : decode cX1_newSlot 3 = .ok (.iconst 2, 1) := by decide +kernel
theorem dX1_newSlot_4 : decode cX1_newSlot 4 = .ok (.aload_n 0, 1) := by decide +kernel
theorem dX1_newSlot_5 : decode cX1_newSlot 5 = .ok (.getfield 48, 3) := by decide +kernel
theorem dX1_newSlot_8 : decode cX1_newSlot 8 = .ok (.imul, 1) := by decide +kernel
theorem dX1_newSlot_9 : decode cX1_newSlot 9 = .ok (.if_icmp .ge 31, 3) := by decide +kernel
theorem dX1_newSlot_12 : decode cX1_newSlot 12 = .ok (.aload_n 0, 1) := by decide +kernel
theorem dX1_newSlot_13 : decode cX1_newSlot 13 = .ok (.getfield 72, 3) := by decide +kernel
theorem dX1_newSlot_16 : decode cX1_newSlot 16 = .ok (.bipush 8, 2) := by decide +kernel
theorem dX1_newSlot_18 : decode cX1_newSlot 18 = .ok (.if_icmp .lt 22, 3) := by decide +kernel
theorem dX1_newSlot_21 : decode cX1_newSlot 21 = .ok (.aload_n 0, 1) := by decide +kernel
theorem dX1_newSlot_22 : decode cX1_newSlot 22 = .ok (.getfield 52, 3) := by decide +kernel
theorem dX1_newSlot_25 : decode cX1_newSlot 25 = .ok (.bipush 7, 2) := by decide +kernel
theorem dX1_newSlot_27 : decode cX1_newSlot 27 = .ok (.if_icmp .lt 13, 3) := by decide +kernel
theorem dX1_newSlot_30 : decode cX1_newSlot 30 = .ok (.aload_n 0, 1) := by decide +kernel
theorem dX1_newSlot_31 : decode cX1_newSlot 31 = .ok (.invokevirtual 125, 3) := by decide +kernel
theorem dX1_newSlot_34 : decode cX1_newSlot 34 = .ok (.iinc 1 1, 3) := by decide +kernel
theorem dX1_newSlot_37 : decode cX1_newSlot 37 = .ok (.goto (-35), 3) := by decide +kernel
theorem dX1_newSlot_40 : decode cX1_newSlot 40 = .ok (.aload_n 0, 1) := by decide +kernel
theorem dX1_newSlot_41 : decode cX1_newSlot 41 = .ok (.getfield 72, 3) := by decide +kernel
theorem dX1_newSlot_44 : decode cX1_newSlot 44 = .ok (.bipush 8, 2) := by decide +kernel
theorem dX1_newSlot_46 : decode cX1_newSlot 46 = .ok (.if_icmp .lt 16, 3) := by decide +kernel
theorem dX1_newSlot_49 : decode cX1_newSlot 49 = .ok (.aload_n 0, 1) := by decide +kernel
theorem dX1_newSlot_50 : decode cX1_newSlot 50 = .ok (.getfield 52, 3) := by decide +kernel
theorem dX1_newSlot_53 : decode cX1_newSlot 53 = .ok (.bipush 7, 2) := by decide +kernel
theorem dX1_newSlot_55 : decode cX1_newSlot 55 = .ok (.if_icmp .lt 7, 3) := by decide +kernel
theorem dX1_newSlot_58 : decode cX1_newSlot 58 = .ok (.aload_n 0, 1) := by decide +kernel
theorem dX1_newSlot_59 : decode cX1_newSlot 59 = .ok (.invokevirtual 128, 3) := by decide +kernel
theorem dX1_newSlot_62 : decode cX1_newSlot 62 = .ok (.aload_n 0, 1) := by decide +kernel
theorem dX1_newSlot_63 : decode cX1_newSlot 63 = .ok (.invokevirtual 82, 3) := by decide +kernel
theorem dX1_newSlot_66 : decode cX1_newSlot 66 = .ok (.ireturn, 1) := by decide +kernel
theorem dX1_moveWindow_0 : decode cX1_moveWindow 0 = .ok (.aload_n 0, 1) := by decide +kernel
theorem dX1_moveWindow_1 : decode cX1_moveWindow 1 = .ok (.getfield 52, 3) := by decide +kernel
theorem dX1_moveWindow_4 : decode cX1_moveWindow 4 = .ok (.iconst 2, 1) := by decide +kernel
theorem dX1_moveWindow_5 : decode cX1_moveWindow 5 = .ok (.if_icmp .lt 12, 3) := by decide +kernel
theorem dX1_moveWindow_8 : decode cX1_moveWindow 8 = .ok (.aload_n 0, 1) := by decide +kernel
theorem dX1_moveWindow_9 : decode cX1_moveWindow 9 = .ok (.getfield 52, 3) := by decide +kernel
theorem dX1_moveWindow_12 : decode cX1_moveWindow 12 = .ok (.bipush 7, 2) := by decide +kernel
theorem dX1_moveWindow_14 : decode cX1_moveWindow 14 = .ok (.if_icmp .le 4, 3) := by decide +kernel
theorem dX1_moveWindow_17 : decode cX1_moveWindow 17 = .ok (.return_, 1) := by decide +kernel
theorem dX1_moveWindow_18 : decode cX1_moveWindow 18 = .ok (.aload_n 0, 1) := by decide +kernel
theorem dX1_moveWindow_19 : decode cX1_moveWindow 19 = .ok (.getfield 110, 3) := by decide +kernel
theorem dX1_moveWindow_22 : decode cX1_moveWindow 22 = .ok (.aload_n 0, 1) := by decide +kernel
theorem dX1_moveWindow_23 : decode cX1_moveWindow 23 = .ok (.getfield 52, 3) := by decide +kernel
theorem dX1_moveWindow_26 : decode cX1_moveWindow 26 = .ok (.iconst 1, 1) := by decide +kernel
theorem dX1_moveWindow_27 : decode cX1_moveWindow 27 = .ok (.isub, 1) := by decide +kernel
theorem dX1_moveWindow_28 : decode cX1_moveWindow 28 = .ok (.if_icmp .lt 8, 3) := by decide +kernel
theorem dX1_moveWindow_31 : decode cX1_moveWindow 31 = .ok (.aload_n 0, 1) := by decide +kernel
theorem dX1_moveWindow_32 : decode cX1_moveWindow 32 = .ok (.iconst 0, 1) := by decide +kernel
theorem dX1_moveWindow_33 : decode cX1_moveWindow 33 = .ok (.putfield 110, 3) := by decide +kernel
theorem dX1_moveWindow_36 : decode cX1_moveWindow 36 = .ok (.aload_n 0, 1) := by decide +kernel
theorem dX1_moveWindow_37 : decode cX1_moveWindow 37 = .ok (.getfield 52, 3) := by decide +kernel
theorem dX1_moveWindow_40 : decode cX1_moveWindow 40 = .ok (.istore_n 1, 1) := by decide +kernel
theorem dX1_moveWindow_41 : decode cX1_moveWindow 41 = .ok (.aload_n 0, 1) := by decide +kernel
theorem dX1_moveWindow_42 : decode cX1_moveWindow 42 = .ok (.aload_n 0, 1) := by decide +kernel
theorem dX1_moveWindow_43 : decode cX1_moveWindow 43 = .ok (.getfield 23, 3) := by decide +kernel
theorem dX1_moveWindow_46 : decode cX1_moveWindow 46 = .ok (.aload_n 0, 1) := by decide +kernel
theorem dX1_moveWindow_47 : decode cX1_moveWindow 47 = .ok (.getfield 110, 3) := by decide +kernel
theorem dX1_moveWindow_50 : decode cX1_moveWindow 50 = .ok (.iaload, 1) := by decide +kernel
theorem dX1_moveWindow_51 : decode cX1_moveWindow 51 = .ok (.invokevirtual 113, 3) := by decide +kernel
theorem dX1_moveWindow_54 : decode cX1_moveWindow 54 = .ok (.aload_n 0, 1) := by decide +kernel
theorem dX1_moveWindow_55 : decode cX1_moveWindow 55 = .ok (.getfield 52, 3) := by decide +kernel
theorem dX1_moveWindow_58 : decode cX1_moveWindow 58 = .ok (.iload_n 1, 1) := by decide +kernel
theorem dX1_moveWindow_59 : decode cX1_moveWindow 59 = .ok (.if_icmp .lt 13, 3) := by decide +kernel
theorem dX1_moveWindow_62 : decode cX1_moveWindow 62 = .ok (.aload_n 0, 1) := by decide +kernel
theorem dX1_moveWindow_63 : decode cX1_moveWindow 63 = .ok (.dup, 1) := by decide +kernel
theorem dX1_moveWindow_64 : decode cX1_moveWindow 64 = .ok (.getfield 110, 3) := by decide +kernel
theorem dX1_moveWindow_67 : decode cX1_moveWindow 67 = .ok (.iconst 1, 1) := by decide +kernel
theorem dX1_moveWindow_68 : decode cX1_moveWindow 68 = .ok (.iadd, 1) := by decide +kernel
theorem dX1_moveWindow_69 : decode cX1_moveWindow 69 = .ok (.putfield 110, 3) := by decide +kernel
theorem dX1_moveWindow_72 : decode cX1_moveWindow 72 = .ok (.return_, 1) := by decide +kernel
theorem dX1_collectBlock_0 : decode cX1_collectBlock 0 = .ok (.aload_n 0, 1) := by decide +kernel
theorem dX1_collectBlock_1 : decode cX1_collectBlock 1 = .ok (.iconst 0, 1) := by decide +kernel
theorem dX1_collectBlock_2 : decode cX1_collectBlock 2 = .ok (.putfield 85, 3) := by decide +kernel
theorem dX1_collectBlock_5 : decode cX1_collectBlock 5 = .ok (.iconst 0, 1) := by decide +kernel
theorem dX1_collectBlock_6 : decode cX1_collectBlock 6 = .ok (.istore_n 2, 1) := by decide +kernel
theorem dX1_collectBlock_7 : decode cX1_collectBlock 7 = .ok (.iload_n 2, 1) := by decide +kernel
theorem dX1_collectBlock_8 : decode cX1_collectBlock 8 = .ok (.bipush 64, 2) := by decide +kernel
theorem dX1_collectBlock_10 : decode cX1_collectBlock 10 = .ok (.if_icmp .ge 16, 3) := by decide +kernel
theorem dX1_collectBlock_13 : decode cX1_collectBlock 13 = .ok (.aload_n 0, 1) := by decide +kernel
theorem dX1_collectBlock_14 : decode cX1_collectBlock 14 = .ok (.getfield 30, 3) := by decide +kernel
theorem dX1_collectBlock_17 : decode cX1_collectBlock 17 = .ok (.iload_n 2, 1) := by decide +kernel
theorem dX1_collectBlock_18 : decode cX1_collectBlock 18 = .ok (.iconst 0, 1) := by decide +kernel
theorem dX1_collectBlock_19 : decode cX1_collectBlock 19 = .ok (.iastore, 1) := by decide +kernel
theorem dX1_collectBlock_20 : decode cX1_collectBlock 20 = .ok (.iinc 2 1, 3) := by decide +kernel
theorem dX1_collectBlock_23 : decode cX1_collectBlock 23 = .ok (.goto (-16), 3) := by decide +kernel
theorem dX1_collectBlock_26 : decode cX1_collectBlock 26 = .ok (.iconst 0, 1) := by decide +kernel
theorem dX1_collectBlock_27 : decode cX1_collectBlock 27 = .ok (.istore_n 2, 1) := by decide +kernel
theorem dX1_collectBlock_28 : decode cX1_collectBlock 28 = .ok (.iload_n 2, 1) := by decide +kernel
theorem dX1_collectBlock_29 : decode cX1_collectBlock 29 = .ok (.bipush 8, 2) := by decide +kernel
theorem dX1_collectBlock_31 : decode cX1_collectBlock 31 = .ok (.if_icmp .ge 39, 3) := by decide +kernel
theorem dX1_collectBlock_34 : decode cX1_collectBlock 34 = .ok (.aload_n 0, 1) := by decide +kernel
theorem dX1_collectBlock_35 : decode cX1_collectBlock 35 = .ok (.aload_n 0, 1) := by decide +kernel
theorem dX1_collectBlock_36 : decode cX1_collectBlock 36 = .ok (.getfield 7, 3) := by decide +kernel
theorem dX1_collectBlock_39 : decode cX1_collectBlock 39 = .ok (.iload_n 2, 1) := by decide +kernel
theorem dX1_collectBlock_40 : decode cX1_collectBlock 40 = .ok (.iaload, 1) := by decide +kernel
theorem dX1_collectBlock_41 : decode cX1_collectBlock 41 = .ok (.iload_n 1, 1) := by decide +kernel
theorem dX1_collectBlock_42 : decode cX1_collectBlock 42 = .ok (.invokevirtual 88, 3) := by decide +kernel
theorem dX1_collectBlock_45 : decode cX1_collectBlock 45 = .ok (.ifCond .eq 19, 3) := by decide +kernel
theorem dX1_collectBlock_48 : decode cX1_collectBlock 48 = .ok (.aload_n 0, 1) := by decide +kernel
theorem dX1_collectBlock_49 : decode cX1_collectBlock 49 = .ok (.getfield 7, 3) := by decide +kernel
theorem dX1_collectBlock_52 : decode cX1_collectBlock 52 = .ok (.iload_n 2, 1) := by decide +kernel
theorem dX1_collectBlock_53 : decode cX1_collectBlock 53 = .ok (.aload_n 0, 1) := by decide +kernel
theorem dX1_collectBlock_54 : decode cX1_collectBlock 54 = .ok (.aload_n 0, 1) := by decide +kernel
theorem dX1_collectBlock_55 : decode cX1_collectBlock 55 = .ok (.getfield 7, 3) := by decide +kernel
theorem dX1_collectBlock_58 : decode cX1_collectBlock 58 = .ok (.iload_n 2, 1) := by decide +kernel
theorem dX1_collectBlock_59 : decode cX1_collectBlock 59 = .ok (.iaload, 1) := by decide +kernel
theorem dX1_collectBlock_60 : decode cX1_collectBlock 60 = .ok (.invokevirtual 92, 3) := by decide +kernel
theorem dX1_collectBlock_63 : decode cX1_collectBlock 63 = .ok (.iastore, 1) := by decide +kernel
theorem dX1_collectBlock_64 : decode cX1_collectBlock 64 = .ok (.iinc 2 1, 3) := by decide +kernel
theorem dX1_collectBlock_67 : decode cX1_collectBlock 67 = .ok (.goto (-39), 3) := by decide +kernel
theorem dX1_collectBlock_70 : decode cX1_collectBlock 70 = .ok (.aload_n 0, 1) := by decide +kernel
theorem dX1_collectBlock_71 : decode cX1_collectBlock 71 = .ok (.getfield 26, 3) := by decide +kernel
theorem dX1_collectBlock_74 : decode cX1_collectBlock 74 = .ok (.iload_n 1, 1) := by decide +kernel
theorem dX1_collectBlock_75 : decode cX1_collectBlock 75 = .ok (.laload, 1) := by decide +kernel
theorem dX1_collectBlock_76 : decode cX1_collectBlock 76 = .ok (.lstore_n 2, 1) := by decide +kernel
theorem dX1_collectBlock_77 : decode cX1_collectBlock 77 = .ok (.iconst 0, 1) := by decide +kernel
theorem dX1_collectBlock_78 : decode cX1_collectBlock 78 = .ok (.istore 4, 2) := by decide +kernel
theorem dX1_collectBlock_80 : decode cX1_collectBlock 80 = .ok (.iload 4, 2) := by decide +kernel
theorem dX1_collectBlock_82 : decode cX1_collectBlock 82 = .ok (.bipush 64, 2) := by decide +kernel
theorem dX1_collectBlock_84 : decode cX1_collectBlock 84 = .ok (.if_icmp .ge 46, 3) := by decide +kernel
theorem dX1_collectBlock_87 : decode cX1_collectBlock 87 = .ok (.lload_n 2, 1) := by decide +kernel
theorem dX1_collectBlock_88 : decode cX1_collectBlock 88 = .ok (.iload 4, 2) := by decide +kernel
theorem dX1_collectBlock_90 : decode cX1_collectBlock 90 = .ok (.lushr, 1) := by decide +kernel
theorem dX1_collectBlock_91 : decode cX1_collectBlock 91 = .ok (.lconst 1, 1) := by decide +kernel
theorem dX1_collectBlock_92 : decode cX1_collectBlock 92 = .ok (.land, 1) := by decide +kernel
theorem dX1_collectBlock_93 : decode cX1_collectBlock 93 = .ok (.lconst 1, 1) := by decide +kernel
theorem dX1_collectBlock_94 : decode cX1_collectBlock 94 = .ok (.lcmp, 1) := by decide +kernel
theorem dX1_collectBlock_95 : decode cX1_collectBlock 95 = .ok (.ifCond .ne 29, 3) := by decide +kernel
theorem dX1_collectBlock_98 : decode cX1_collectBlock 98 = .ok (.aload_n 0, 1) := by decide +kernel
theorem dX1_collectBlock_99 : decode cX1_collectBlock 99 = .ok (.getfield 13, 3) := by decide +kernel
theorem dX1_collectBlock_102 : decode cX1_collectBlock 102 = .ok (.iload 4, 2) := by decide +kernel
theorem dX1_collectBlock_104 : decode cX1_collectBlock 104 = .ok (.baload, 1) := by decide +kernel
theorem dX1_collectBlock_105 : decode cX1_collectBlock 105 = .ok (.ifCond .eq 19, 3) := by decide +kernel
theorem dX1_collectBlock_108 : decode cX1_collectBlock 108 = .ok (.iload 4, 2) := by decide +kernel
theorem dX1_collectBlock_110 : decode cX1_collectBlock 110 = .ok (.bipush 8, 2) := by decide +kernel
theorem dX1_collectBlock_112 : decode cX1_collectBlock 112 = .ok (.idiv, 1) := by decide +kernel
theorem dX1_collectBlock_113 : decode cX1_collectBlock 113 = .ok (.iload_n 1, 1) := by decide +kernel
theorem dX1_collectBlock_114 : decode cX1_collectBlock 114 = .ok (.if_icmp .eq 10, 3) := by decide +kernel
theorem dX1_collectBlock_117 : decode cX1_collectBlock 117 = .ok (.aload_n 0, 1) := by decide +kernel
theorem dX1_collectBlock_118 : decode cX1_collectBlock 118 = .ok (.iload 4, 2) := by decide +kernel
theorem dX1_collectBlock_120 : decode cX1_collectBlock 120 = .ok (.iload_n 1, 1) := by decide +kernel
theorem dX1_collectBlock_121 : decode cX1_collectBlock 121 = .ok (.invokevirtual 99, 3) := by decide +kernel
theorem dX1_collectBlock_124 : decode cX1_collectBlock 124 = .ok (.iinc 4 1, 3) := by decide +kernel
theorem dX1_collectBlock_127 : decode cX1_collectBlock 127 = .ok (.goto (-47), 3) := by decide +kernel
theorem dX1_collectBlock_130 : decode cX1_collectBlock 130 = .ok (.iconst 0, 1) := by decide +kernel
theorem dX1_collectBlock_131 : decode cX1_collectBlock 131 = .ok (.istore 4, 2) := by decide +kernel
theorem dX1_collectBlock_133 : decode cX1_collectBlock 133 = .ok (.iload 4, 2) := by decide +kernel
theorem dX1_collectBlock_135 : decode cX1_collectBlock 135 = .ok (.aload_n 0, 1) := by decide +kernel
theorem dX1_collectBlock_136 : decode cX1_collectBlock 136 = .ok (.getfield 85, 3) := by decide +kernel
theorem dX1_collectBlock_139 : decode cX1_collectBlock 139 = .ok (.if_icmp .ge 28, 3) := by decide +kernel
theorem dX1_collectBlock_142 : decode cX1_collectBlock 142 = .ok (.iload 4, 2) := by decide +kernel
theorem dX1_collectBlock_144 : decode cX1_collectBlock 144 = .ok (.bipush 64, 2) := by decide +kernel
theorem dX1_collectBlock_146 : decode cX1_collectBlock 146 = .ok (.if_icmp .ge 21, 3) := by decide +kernel
theorem dX1_collectBlock_149 : decode cX1_collectBlock 149 = .ok (.aload_n 0, 1) := by decide +kernel
theorem dX1_collectBlock_150 : decode cX1_collectBlock 150 = .ok (.aload_n 0, 1) := by decide +kernel
theorem dX1_collectBlock_151 : decode cX1_collectBlock 151 = .ok (.getfield 33, 3) := by decide +kernel
theorem dX1_collectBlock_154 : decode cX1_collectBlock 154 = .ok (.iload 4, 2) := by decide +kernel
theorem dX1_collectBlock_156 : decode cX1_collectBlock 156 = .ok (.iaload, 1) := by decide +kernel
theorem dX1_collectBlock_157 : decode cX1_collectBlock 157 = .ok (.iload_n 1, 1) := by decide +kernel
theorem dX1_collectBlock_158 : decode cX1_collectBlock 158 = .ok (.invokevirtual 99, 3) := by decide +kernel
theorem dX1_collectBlock_161 : decode cX1_collectBlock 161 = .ok (.iinc 4 1, 3) := by decide +kernel
theorem dX1_collectBlock_164 : decode cX1_collectBlock 164 = .ok (.goto (-31), 3) := by decide +kernel
theorem dX1_collectBlock_167 : decode cX1_collectBlock 167 = .ok (.aload_n 0, 1) := by decide +kernel
theorem dX1_collectBlock_168 : decode cX1_collectBlock 168 = .ok (.iload_n 1, 1) := by decide +kernel
theorem dX1_collectBlock_169 : decode cX1_collectBlock 169 = .ok (.invokevirtual 102, 3) := by decide +kernel
theorem dX1_collectBlock_172 : decode cX1_collectBlock 172 = .ok (.return_, 1) := by decide +kernel
theorem dX1_within_0 : decode cX1_within 0 = .ok (.iload_n 1, 1) := by decide +kernel
theorem dX1_within_1 : decode cX1_within 1 = .ok (.ifCond .eq 17, 3) := by decide +kernel
theorem dX1_within_4 : decode cX1_within 4 = .ok (.iload_n 1, 1) := by decide +kernel
theorem dX1_within_5 : decode cX1_within 5 = .ok (.iconst 1, 1) := by decide +kernel
theorem dX1_within_6 : decode cX1_within 6 = .ok (.isub, 1) := by decide +kernel
theorem dX1_within_7 : decode cX1_within 7 = .ok (.bipush 8, 2) := by decide +kernel
theorem dX1_within_9 : decode cX1_within 9 = .ok (.idiv, 1) := by decide +kernel
theorem dX1_within_10 : decode cX1_within 10 = .ok (.iload_n 2, 1) := by decide +kernel
theorem dX1_within_11 : decode cX1_within 11 = .ok (.if_icmp .ne 7, 3) := by decide +kernel
theorem dX1_within_14 : decode cX1_within 14 = .ok (.iconst 1, 1) := by decide +kernel
theorem dX1_within_15 : decode cX1_within 15 = .ok (.goto 4, 3) := by decide +kernel
theorem dX1_within_18 : decode cX1_within 18 = .ok (.iconst 0, 1) := by decide +kernel
theorem dX1_within_19 : decode cX1_within 19 = .ok (.ireturn, 1) := by decide +kernel
theorem dX1_evacuate_0 : decode cX1_evacuate 0 = .ok (.iload_n 1, 1) := by decide +kernel
theorem dX1_evacuate_1 : decode cX1_evacuate 1 = .ok (.iconst 1, 1) := by decide +kernel
theorem dX1_evacuate_2 : decode cX1_evacuate 2 = .ok (.isub, 1) := by decide +kernel
theorem dX1_evacuate_3 : decode cX1_evacuate 3 = .ok (.istore_n 2, 1) := by decide +kernel
theorem dX1_evacuate_4 : decode cX1_evacuate 4 = .ok (.aload_n 0, 1) := by decide +kernel
theorem dX1_evacuate_5 : decode cX1_evacuate 5 = .ok (.getfield 30, 3) := by decide +kernel
theorem dX1_evacuate_8 : decode cX1_evacuate 8 = .ok (.iload_n 2, 1) := by decide +kernel
end
section
set_option maxRecDepth 100000
theorem dX1_evacuate_9 : decode cX1_evacuate 9 = .ok (.iaload, 1) := by decide +kernel
theorem dX1_evacuate_10 : decode cX1_evacuate 10 = .ok (.ifCond .eq 10, 3) := by decide +kernel
theorem dX1_evacuate_13 : decode cX1_evacuate 13 = .ok (.aload_n 0, 1) := by decide +kernel
theorem dX1_evacuate_14 : decode cX1_evacuate 14 = .ok (.getfield 30, 3) := by decide +kernel
theorem dX1_evacuate_17 : decode cX1_evacuate 17 = .ok (.iload_n 2, 1) := by decide +kernel
theorem dX1_evacuate_18 : decode cX1_evacuate 18 = .ok (.iaload, 1) := by decide +kernel
theorem dX1_evacuate_19 : decode cX1_evacuate 19 = .ok (.ireturn, 1) := by decide +kernel
theorem dX1_evacuate_20 : decode cX1_evacuate 20 = .ok (.aload_n 0, 1) := by decide +kernel
theorem dX1_evacuate_21 : decode cX1_evacuate 21 = .ok (.invokevirtual 82, 3) := by decide +kernel
theorem dX1_evacuate_24 : decode cX1_evacuate 24 = .ok (.istore_n 3, 1) := by decide +kernel
theorem dX1_evacuate_25 : decode cX1_evacuate 25 = .ok (.aload_n 0, 1) := by decide +kernel
theorem dX1_evacuate_26 : decode cX1_evacuate 26 = .ok (.getfield 17, 3) := by decide +kernel
theorem dX1_evacuate_29 : decode cX1_evacuate 29 = .ok (.iload_n 3, 1) := by decide +kernel
theorem dX1_evacuate_30 : decode cX1_evacuate 30 = .ok (.aload_n 0, 1) := by decide +kernel
theorem dX1_evacuate_31 : decode cX1_evacuate 31 = .ok (.getfield 17, 3) := by decide +kernel
theorem dX1_evacuate_34 : decode cX1_evacuate 34 = .ok (.iload_n 2, 1) := by decide +kernel
theorem dX1_evacuate_35 : decode cX1_evacuate 35 = .ok (.iaload, 1) := by decide +kernel
theorem dX1_evacuate_36 : decode cX1_evacuate 36 = .ok (.iastore, 1) := by decide +kernel
theorem dX1_evacuate_37 : decode cX1_evacuate 37 = .ok (.iconst 0, 1) := by decide +kernel
theorem dX1_evacuate_38 : decode cX1_evacuate 38 = .ok (.istore 4, 2) := by decide +kernel
theorem dX1_evacuate_40 : decode cX1_evacuate 40 = .ok (.iload 4, 2) := by decide +kernel
theorem dX1_evacuate_42 : decode cX1_evacuate 42 = .ok (.iconst 3, 1) := by decide +kernel
theorem dX1_evacuate_43 : decode cX1_evacuate 43 = .ok (.if_icmp .ge 31, 3) := by decide +kernel
theorem dX1_evacuate_46 : decode cX1_evacuate 46 = .ok (.aload_n 0, 1) := by decide +kernel
theorem dX1_evacuate_47 : decode cX1_evacuate 47 = .ok (.getfield 20, 3) := by decide +kernel
theorem dX1_evacuate_50 : decode cX1_evacuate 50 = .ok (.iload_n 3, 1) := by decide +kernel
theorem dX1_evacuate_51 : decode cX1_evacuate 51 = .ok (.iconst 3, 1) := by decide +kernel
theorem dX1_evacuate_52 : decode cX1_evacuate 52 = .ok (.imul, 1) := by decide +kernel
theorem dX1_evacuate_53 : decode cX1_evacuate 53 = .ok (.iload 4, 2) := by decide +kernel
theorem dX1_evacuate_55 : decode cX1_evacuate 55 = .ok (.iadd, 1) := by decide +kernel
theorem dX1_evacuate_56 : decode cX1_evacuate 56 = .ok (.aload_n 0, 1) := by decide +kernel
theorem dX1_evacuate_57 : decode cX1_evacuate 57 = .ok (.getfield 20, 3) := by decide +kernel
theorem dX1_evacuate_60 : decode cX1_evacuate 60 = .ok (.iload_n 2, 1) := by decide +kernel
theorem dX1_evacuate_61 : decode cX1_evacuate 61 = .ok (.iconst 3, 1) := by decide +kernel
theorem dX1_evacuate_62 : decode cX1_evacuate 62 = .ok (.imul, 1) := by decide +kernel
theorem dX1_evacuate_63 : decode cX1_evacuate 63 = .ok (.iload 4, 2) := by decide +kernel
theorem dX1_evacuate_65 : decode cX1_evacuate 65 = .ok (.iadd, 1) := by decide +kernel
theorem dX1_evacuate_66 : decode cX1_evacuate 66 = .ok (.iaload, 1) := by decide +kernel
theorem dX1_evacuate_67 : decode cX1_evacuate 67 = .ok (.iastore, 1) := by decide +kernel
theorem dX1_evacuate_68 : decode cX1_evacuate 68 = .ok (.iinc 4 1, 3) := by decide +kernel
theorem dX1_evacuate_71 : decode cX1_evacuate 71 = .ok (.goto (-31), 3) := by decide +kernel
theorem dX1_evacuate_74 : decode cX1_evacuate 74 = .ok (.aload_n 0, 1) := by decide +kernel
theorem dX1_evacuate_75 : decode cX1_evacuate 75 = .ok (.getfield 30, 3) := by decide +kernel
theorem dX1_evacuate_78 : decode cX1_evacuate 78 = .ok (.iload_n 2, 1) := by decide +kernel
theorem dX1_evacuate_79 : decode cX1_evacuate 79 = .ok (.iload_n 3, 1) := by decide +kernel
theorem dX1_evacuate_80 : decode cX1_evacuate 80 = .ok (.iconst 1, 1) := by decide +kernel
theorem dX1_evacuate_81 : decode cX1_evacuate 81 = .ok (.iadd, 1) := by decide +kernel
theorem dX1_evacuate_82 : decode cX1_evacuate 82 = .ok (.iastore, 1) := by decide +kernel
theorem dX1_evacuate_83 : decode cX1_evacuate 83 = .ok (.aload_n 0, 1) := by decide +kernel
theorem dX1_evacuate_84 : decode cX1_evacuate 84 = .ok (.getfield 33, 3) := by decide +kernel
theorem dX1_evacuate_87 : decode cX1_evacuate 87 = .ok (.aload_n 0, 1) := by decide +kernel
theorem dX1_evacuate_88 : decode cX1_evacuate 88 = .ok (.getfield 85, 3) := by decide +kernel
theorem dX1_evacuate_91 : decode cX1_evacuate 91 = .ok (.iload_n 3, 1) := by decide +kernel
theorem dX1_evacuate_92 : decode cX1_evacuate 92 = .ok (.iastore, 1) := by decide +kernel
theorem dX1_evacuate_93 : decode cX1_evacuate 93 = .ok (.aload_n 0, 1) := by decide +kernel
theorem dX1_evacuate_94 : decode cX1_evacuate 94 = .ok (.dup, 1) := by decide +kernel
theorem dX1_evacuate_95 : decode cX1_evacuate 95 = .ok (.getfield 85, 3) := by decide +kernel
theorem dX1_evacuate_98 : decode cX1_evacuate 98 = .ok (.iconst 1, 1) := by decide +kernel
theorem dX1_evacuate_99 : decode cX1_evacuate 99 = .ok (.iadd, 1) := by decide +kernel
theorem dX1_evacuate_100 : decode cX1_evacuate 100 = .ok (.putfield 85, 3) := by decide +kernel
theorem dX1_evacuate_103 : decode cX1_evacuate 103 = .ok (.iload_n 3, 1) := by decide +kernel
theorem dX1_evacuate_104 : decode cX1_evacuate 104 = .ok (.iconst 1, 1) := by decide +kernel
theorem dX1_evacuate_105 : decode cX1_evacuate 105 = .ok (.iadd, 1) := by decide +kernel
theorem dX1_evacuate_106 : decode cX1_evacuate 106 = .ok (.ireturn, 1) := by decide +kernel
theorem dX1_bump_0 : decode cX1_bump 0 = .ok (.aload_n 0, 1) := by decide +kernel
theorem dX1_bump_1 : decode cX1_bump 1 = .ok (.getfield 72, 3) := by decide +kernel
theorem dX1_bump_4 : decode cX1_bump 4 = .ok (.bipush 8, 2) := by decide +kernel
theorem dX1_bump_6 : decode cX1_bump 6 = .ok (.if_icmp .lt 7, 3) := by decide +kernel
theorem dX1_bump_9 : decode cX1_bump 9 = .ok (.aload_n 0, 1) := by decide +kernel
theorem dX1_bump_10 : decode cX1_bump 10 = .ok (.invokevirtual 75, 3) := by decide +kernel
theorem dX1_bump_13 : decode cX1_bump 13 = .ok (.aload_n 0, 1) := by decide +kernel
theorem dX1_bump_14 : decode cX1_bump 14 = .ok (.invokevirtual 78, 3) := by decide +kernel
theorem dX1_bump_17 : decode cX1_bump 17 = .ok (.bipush 8, 2) := by decide +kernel
theorem dX1_bump_19 : decode cX1_bump 19 = .ok (.imul, 1) := by decide +kernel
theorem dX1_bump_20 : decode cX1_bump 20 = .ok (.aload_n 0, 1) := by decide +kernel
theorem dX1_bump_21 : decode cX1_bump 21 = .ok (.getfield 72, 3) := by decide +kernel
theorem dX1_bump_24 : decode cX1_bump 24 = .ok (.iadd, 1) := by decide +kernel
theorem dX1_bump_25 : decode cX1_bump 25 = .ok (.istore_n 1, 1) := by decide +kernel
theorem dX1_bump_26 : decode cX1_bump 26 = .ok (.aload_n 0, 1) := by decide +kernel
theorem dX1_bump_27 : decode cX1_bump 27 = .ok (.dup, 1) := by decide +kernel
theorem dX1_bump_28 : decode cX1_bump 28 = .ok (.getfield 72, 3) := by decide +kernel
theorem dX1_bump_31 : decode cX1_bump 31 = .ok (.iconst 1, 1) := by decide +kernel
theorem dX1_bump_32 : decode cX1_bump 32 = .ok (.iadd, 1) := by decide +kernel
theorem dX1_bump_33 : decode cX1_bump 33 = .ok (.putfield 72, 3) := by decide +kernel
theorem dX1_bump_36 : decode cX1_bump 36 = .ok (.aload_n 0, 1) := by decide +kernel
theorem dX1_bump_37 : decode cX1_bump 37 = .ok (.getfield 13, 3) := by decide +kernel
theorem dX1_bump_40 : decode cX1_bump 40 = .ok (.iload_n 1, 1) := by decide +kernel
theorem dX1_bump_41 : decode cX1_bump 41 = .ok (.iconst 1, 1) := by decide +kernel
theorem dX1_bump_42 : decode cX1_bump 42 = .ok (.bastore, 1) := by decide +kernel
theorem dX1_bump_43 : decode cX1_bump 43 = .ok (.iload_n 1, 1) := by decide +kernel
theorem dX1_bump_44 : decode cX1_bump 44 = .ok (.ireturn, 1) := by decide +kernel
theorem dX1_openBlock_0 : decode cX1_openBlock 0 = .ok (.iconst 0, 1) := by decide +kernel
theorem dX1_openBlock_1 : decode cX1_openBlock 1 = .ok (.istore_n 1, 1) := by decide +kernel
theorem dX1_openBlock_2 : decode cX1_openBlock 2 = .ok (.aload_n 0, 1) := by decide +kernel
theorem dX1_openBlock_3 : decode cX1_openBlock 3 = .ok (.iload_n 1, 1) := by decide +kernel
theorem dX1_openBlock_4 : decode cX1_openBlock 4 = .ok (.invokevirtual 68, 3) := by decide +kernel
theorem dX1_openBlock_7 : decode cX1_openBlock 7 = .ok (.istore_n 2, 1) := by decide +kernel
theorem dX1_openBlock_8 : decode cX1_openBlock 8 = .ok (.iload_n 1, 1) := by decide +kernel
theorem dX1_openBlock_9 : decode cX1_openBlock 9 = .ok (.bipush 7, 2) := by decide +kernel
theorem dX1_openBlock_11 : decode cX1_openBlock 11 = .ok (.if_icmp .ge 19, 3) := by decide +kernel
theorem dX1_openBlock_14 : decode cX1_openBlock 14 = .ok (.iload_n 2, 1) := by decide +kernel
theorem dX1_openBlock_15 : decode cX1_openBlock 15 = .ok (.ifCond .eq 15, 3) := by decide +kernel
theorem dX1_openBlock_18 : decode cX1_openBlock 18 = .ok (.iinc 1 1, 3) := by decide +kernel
theorem dX1_openBlock_21 : decode cX1_openBlock 21 = .ok (.aload_n 0, 1) := by decide +kernel
theorem dX1_openBlock_22 : decode cX1_openBlock 22 = .ok (.iload_n 1, 1) := by decide +kernel
theorem dX1_openBlock_23 : decode cX1_openBlock 23 = .ok (.invokevirtual 68, 3) := by decide +kernel
theorem dX1_openBlock_26 : decode cX1_openBlock 26 = .ok (.istore_n 2, 1) := by decide +kernel
theorem dX1_openBlock_27 : decode cX1_openBlock 27 = .ok (.goto (-19), 3) := by decide +kernel
theorem dX1_openBlock_30 : decode cX1_openBlock 30 = .ok (.iload_n 2, 1) := by decide +kernel
theorem dX1_openBlock_31 : decode cX1_openBlock 31 = .ok (.ifCond .eq 4, 3) := by decide +kernel
theorem dX1_openBlock_34 : decode cX1_openBlock 34 = .ok (.return_, 1) := by decide +kernel
theorem dX1_openBlock_35 : decode cX1_openBlock 35 = .ok (.aload_n 0, 1) := by decide +kernel
theorem dX1_openBlock_36 : decode cX1_openBlock 36 = .ok (.getfield 23, 3) := by decide +kernel
theorem dX1_openBlock_39 : decode cX1_openBlock 39 = .ok (.aload_n 0, 1) := by decide +kernel
theorem dX1_openBlock_40 : decode cX1_openBlock 40 = .ok (.getfield 52, 3) := by decide +kernel
theorem dX1_openBlock_43 : decode cX1_openBlock 43 = .ok (.iload_n 1, 1) := by decide +kernel
theorem dX1_openBlock_44 : decode cX1_openBlock 44 = .ok (.iastore, 1) := by decide +kernel
theorem dX1_openBlock_45 : decode cX1_openBlock 45 = .ok (.aload_n 0, 1) := by decide +kernel
theorem dX1_openBlock_46 : decode cX1_openBlock 46 = .ok (.dup, 1) := by decide +kernel
theorem dX1_openBlock_47 : decode cX1_openBlock 47 = .ok (.getfield 52, 3) := by decide +kernel
theorem dX1_openBlock_50 : decode cX1_openBlock 50 = .ok (.iconst 1, 1) := by decide +kernel
theorem dX1_openBlock_51 : decode cX1_openBlock 51 = .ok (.iadd, 1) := by decide +kernel
theorem dX1_openBlock_52 : decode cX1_openBlock 52 = .ok (.putfield 52, 3) := by decide +kernel
theorem dX1_openBlock_55 : decode cX1_openBlock 55 = .ok (.aload_n 0, 1) := by decide +kernel
theorem dX1_openBlock_56 : decode cX1_openBlock 56 = .ok (.iconst 0, 1) := by decide +kernel
theorem dX1_openBlock_57 : decode cX1_openBlock 57 = .ok (.putfield 72, 3) := by decide +kernel
theorem dX1_openBlock_60 : decode cX1_openBlock 60 = .ok (.aload_n 0, 1) := by decide +kernel
theorem dX1_openBlock_61 : decode cX1_openBlock 61 = .ok (.getfield 26, 3) := by decide +kernel
theorem dX1_openBlock_64 : decode cX1_openBlock 64 = .ok (.iload_n 1, 1) := by decide +kernel
theorem dX1_openBlock_65 : decode cX1_openBlock 65 = .ok (.lconst 0, 1) := by decide +kernel
theorem dX1_openBlock_66 : decode cX1_openBlock 66 = .ok (.lastore, 1) := by decide +kernel
theorem dX1_openBlock_67 : decode cX1_openBlock 67 = .ok (.return_, 1) := by decide +kernel
theorem dX1_inUse_0 : decode cX1_inUse 0 = .ok (.iconst 0, 1) := by decide +kernel
theorem dX1_inUse_1 : decode cX1_inUse 1 = .ok (.istore_n 2, 1) := by decide +kernel
theorem dX1_inUse_2 : decode cX1_inUse 2 = .ok (.iload_n 2, 1) := by decide +kernel
theorem dX1_inUse_3 : decode cX1_inUse 3 = .ok (.aload_n 0, 1) := by decide +kernel
theorem dX1_inUse_4 : decode cX1_inUse 4 = .ok (.getfield 52, 3) := by decide +kernel
theorem dX1_inUse_7 : decode cX1_inUse 7 = .ok (.if_icmp .ge 21, 3) := by decide +kernel
theorem dX1_inUse_10 : decode cX1_inUse 10 = .ok (.aload_n 0, 1) := by decide +kernel
theorem dX1_inUse_11 : decode cX1_inUse 11 = .ok (.getfield 23, 3) := by decide +kernel
theorem dX1_inUse_14 : decode cX1_inUse 14 = .ok (.iload_n 2, 1) := by decide +kernel
theorem dX1_inUse_15 : decode cX1_inUse 15 = .ok (.iaload, 1) := by decide +kernel
theorem dX1_inUse_16 : decode cX1_inUse 16 = .ok (.iload_n 1, 1) := by decide +kernel
theorem dX1_inUse_17 : decode cX1_inUse 17 = .ok (.if_icmp .ne 5, 3) := by decide +kernel
theorem dX1_inUse_20 : decode cX1_inUse 20 = .ok (.iconst 1, 1) := by decide +kernel
theorem dX1_inUse_21 : decode cX1_inUse 21 = .ok (.ireturn, 1) := by decide +kernel
theorem dX1_inUse_22 : decode cX1_inUse 22 = .ok (.iinc 2 1, 3) := by decide +kernel
theorem dX1_inUse_25 : decode cX1_inUse 25 = .ok (.goto (-23), 3) := by decide +kernel
theorem dX1_inUse_28 : decode cX1_inUse 28 = .ok (.iconst 0, 1) := by decide +kernel
theorem dX1_inUse_29 : decode cX1_inUse 29 = .ok (.ireturn, 1) := by decide +kernel
theorem dX1_youngest_0 : decode cX1_youngest 0 = .ok (.aload_n 0, 1) := by decide +kernel
theorem dX1_youngest_1 : decode cX1_youngest 1 = .ok (.getfield 23, 3) := by decide +kernel
theorem dX1_youngest_4 : decode cX1_youngest 4 = .ok (.aload_n 0, 1) := by decide +kernel
theorem dX1_youngest_5 : decode cX1_youngest 5 = .ok (.getfield 52, 3) := by decide +kernel
theorem dX1_youngest_8 : decode cX1_youngest 8 = .ok (.iconst 1, 1) := by decide +kernel
theorem dX1_youngest_9 : decode cX1_youngest 9 = .ok (.isub, 1) := by decide +kernel
theorem dX1_youngest_10 : decode cX1_youngest 10 = .ok (.iaload, 1) := by decide +kernel
theorem dX1_youngest_11 : decode cX1_youngest 11 = .ok (.ireturn, 1) := by decide +kernel
theorem dX1_fixFields_0 : decode cX1_fixFields 0 = .ok (.iconst 0, 1) := by decide +kernel
theorem dX1_fixFields_1 : decode cX1_fixFields 1 = .ok (.istore_n 3, 1) := by decide +kernel
theorem dX1_fixFields_2 : decode cX1_fixFields 2 = .ok (.iload_n 3, 1) := by decide +kernel
theorem dX1_fixFields_3 : decode cX1_fixFields 3 = .ok (.iconst 3, 1) := by decide +kernel
theorem dX1_fixFields_4 : decode cX1_fixFields 4 = .ok (.if_icmp .ge 61, 3) := by decide +kernel
theorem dX1_fixFields_7 : decode cX1_fixFields 7 = .ok (.iload_n 1, 1) := by decide +kernel
theorem dX1_fixFields_8 : decode cX1_fixFields 8 = .ok (.iconst 3, 1) := by decide +kernel
theorem dX1_fixFields_9 : decode cX1_fixFields 9 = .ok (.imul, 1) := by decide +kernel
theorem dX1_fixFields_10 : decode cX1_fixFields 10 = .ok (.iload_n 3, 1) := by decide +kernel
theorem dX1_fixFields_11 : decode cX1_fixFields 11 = .ok (.iadd, 1) := by decide +kernel
theorem dX1_fixFields_12 : decode cX1_fixFields 12 = .ok (.istore 4, 2) := by decide +kernel
theorem dX1_fixFields_14 : decode cX1_fixFields 14 = .ok (.aload_n 0, 1) := by decide +kernel
theorem dX1_fixFields_15 : decode cX1_fixFields 15 = .ok (.aload_n 0, 1) := by decide +kernel
theorem dX1_fixFields_16 : decode cX1_fixFields 16 = .ok (.getfield 20, 3) := by decide +kernel
theorem dX1_fixFields_19 : decode cX1_fixFields 19 = .ok (.iload 4, 2) := by decide +kernel
theorem dX1_fixFields_21 : decode cX1_fixFields 21 = .ok (.iaload, 1) := by decide +kernel
theorem dX1_fixFields_22 : decode cX1_fixFields 22 = .ok (.iload_n 2, 1) := by decide +kernel
theorem dX1_fixFields_23 : decode cX1_fixFields 23 = .ok (.invokevirtual 88, 3) := by decide +kernel
theorem dX1_fixFields_26 : decode cX1_fixFields 26 = .ok (.ifCond .eq 21, 3) := by decide +kernel
theorem dX1_fixFields_29 : decode cX1_fixFields 29 = .ok (.aload_n 0, 1) := by decide +kernel
theorem dX1_fixFields_30 : decode cX1_fixFields 30 = .ok (.getfield 20, 3) := by decide +kernel
theorem dX1_fixFields_33 : decode cX1_fixFields 33 = .ok (.iload 4, 2) := by decide +kernel
theorem dX1_fixFields_35 : decode cX1_fixFields 35 = .ok (.aload_n 0, 1) := by decide +kernel
theorem dX1_fixFields_36 : decode cX1_fixFields 36 = .ok (.aload_n 0, 1) := by decide +kernel
theorem dX1_fixFields_37 : decode cX1_fixFields 37 = .ok (.getfield 20, 3) := by decide +kernel
theorem dX1_fixFields_40 : decode cX1_fixFields 40 = .ok (.iload 4, 2) := by decide +kernel
theorem dX1_fixFields_42 : decode cX1_fixFields 42 = .ok (.iaload, 1) := by decide +kernel
theorem dX1_fixFields_43 : decode cX1_fixFields 43 = .ok (.invokevirtual 92, 3) := by decide +kernel
theorem dX1_fixFields_46 : decode cX1_fixFields 46 = .ok (.iastore, 1) := by decide +kernel
theorem dX1_fixFields_47 : decode cX1_fixFields 47 = .ok (.aload_n 0, 1) := by decide +kernel
theorem dX1_fixFields_48 : decode cX1_fixFields 48 = .ok (.iload_n 1, 1) := by decide +kernel
theorem dX1_fixFields_49 : decode cX1_fixFields 49 = .ok (.aload_n 0, 1) := by decide +kernel
theorem dX1_fixFields_50 : decode cX1_fixFields 50 = .ok (.getfield 20, 3) := by decide +kernel
theorem dX1_fixFields_53 : decode cX1_fixFields 53 = .ok (.iload 4, 2) := by decide +kernel
theorem dX1_fixFields_55 : decode cX1_fixFields 55 = .ok (.iaload, 1) := by decide +kernel
theorem dX1_fixFields_56 : decode cX1_fixFields 56 = .ok (.invokevirtual 96, 3) := by decide +kernel
theorem dX1_fixFields_59 : decode cX1_fixFields 59 = .ok (.iinc 3 1, 3) := by decide +kernel
theorem dX1_fixFields_62 : decode cX1_fixFields 62 = .ok (.goto (-60), 3) := by decide +kernel
theorem dX1_fixFields_65 : decode cX1_fixFields 65 = .ok (.return_, 1) := by decide +kernel
theorem dX1_remember_0 : decode cX1_remember 0 = .ok (.iload_n 2, 1) := by decide +kernel
theorem dX1_remember_1 : decode cX1_remember 1 = .ok (.ifCond .eq 20, 3) := by decide +kernel
theorem dX1_remember_4 : decode cX1_remember 4 = .ok (.aload_n 0, 1) := by decide +kernel
theorem dX1_remember_5 : decode cX1_remember 5 = .ok (.getfield 26, 3) := by decide +kernel
theorem dX1_remember_8 : decode cX1_remember 8 = .ok (.iload_n 2, 1) := by decide +kernel
theorem dX1_remember_9 : decode cX1_remember 9 = .ok (.iconst 1, 1) := by decide +kernel
theorem dX1_remember_10 : decode cX1_remember 10 = .ok (.isub, 1) := by decide +kernel
theorem dX1_remember_11 : decode cX1_remember 11 = .ok (.bipush 8, 2) := by decide +kernel
theorem dX1_remember_13 : decode cX1_remember 13 = .ok (.idiv, 1) := by decide +kernel
theorem dX1_remember_14 : decode cX1_remember 14 = .ok (.dup2, 1) := by decide +kernel
theorem dX1_remember_15 : decode cX1_remember 15 = .ok (.laload, 1) := by decide +kernel
theorem dX1_remember_16 : decode cX1_remember 16 = .ok (.lconst 1, 1) := by decide +kernel
theorem dX1_remember_17 : decode cX1_remember 17 = .ok (.iload_n 1, 1) := by decide +kernel
theorem dX1_remember_18 : decode cX1_remember 18 = .ok (.lshl, 1) := by decide +kernel
theorem dX1_remember_19 : decode cX1_remember 19 = .ok (.lor, 1) := by decide +kernel
theorem dX1_remember_20 : decode cX1_remember 20 = .ok (.lastore, 1) := by decide +kernel
theorem dX1_remember_21 : decode cX1_remember 21 = .ok (.return_, 1) := by decide +kernel
theorem dX1_freeBlock_0 : decode cX1_freeBlock 0 = .ok (.iconst 0, 1) := by decide +kernel
theorem dX1_freeBlock_1 : decode cX1_freeBlock 1 = .ok (.istore_n 2, 1) := by decide +kernel
theorem dX1_freeBlock_2 : decode cX1_freeBlock 2 = .ok (.iconst 0, 1) := by decide +kernel
theorem dX1_freeBlock_3 : decode cX1_freeBlock 3 = .ok (.istore_n 3, 1) := by decide +kernel
theorem dX1_freeBlock_4 : decode cX1_freeBlock 4 = .ok (.iload_n 3, 1) := by decide +kernel
theorem dX1_freeBlock_5 : decode cX1_freeBlock 5 = .ok (.aload_n 0, 1) := by decide +kernel
theorem dX1_freeBlock_6 : decode cX1_freeBlock 6 = .ok (.getfield 52, 3) := by decide +kernel
theorem dX1_freeBlock_9 : decode cX1_freeBlock 9 = .ok (.if_icmp .ge 34, 3) := by decide +kernel
theorem dX1_freeBlock_12 : decode cX1_freeBlock 12 = .ok (.aload_n 0, 1) := by decide +kernel
theorem dX1_freeBlock_13 : decode cX1_freeBlock 13 = .ok (.getfield 23, 3) := by decide +kernel
theorem dX1_freeBlock_16 : decode cX1_freeBlock 16 = .ok (.iload_n 3, 1) := by decide +kernel
theorem dX1_freeBlock_17 : decode cX1_freeBlock 17 = .ok (.iaload, 1) := by decide +kernel
theorem dX1_freeBlock_18 : decode cX1_freeBlock 18 = .ok (.iload_n 1, 1) := by decide +kernel
theorem dX1_freeBlock_19 : decode cX1_freeBlock 19 = .ok (.if_icmp .eq 18, 3) := by decide +kernel
theorem dX1_freeBlock_22 : decode cX1_freeBlock 22 = .ok (.aload_n 0, 1) := by decide +kernel
theorem dX1_freeBlock_23 : decode cX1_freeBlock 23 = .ok (.getfield 23, 3) := by decide +kernel
theorem dX1_freeBlock_26 : decode cX1_freeBlock 26 = .ok (.iload_n 2, 1) := by decide +kernel
theorem dX1_freeBlock_27 : decode cX1_freeBlock 27 = .ok (.aload_n 0, 1) := by decide +kernel
theorem dX1_freeBlock_28 : decode cX1_freeBlock 28 = .ok (.getfield 23, 3) := by decide +kernel
theorem dX1_freeBlock_31 : decode cX1_freeBlock 31 = .ok (.iload_n 3, 1) := by decide +kernel
theorem dX1_freeBlock_32 : decode cX1_freeBlock 32 = .ok (.iaload, 1) := by decide +kernel
theorem dX1_freeBlock_33 : decode cX1_freeBlock 33 = .ok (.iastore, 1) := by decide +kernel
theorem dX1_freeBlock_34 : decode cX1_freeBlock 34 = .ok (.iinc 2 1, 3) := by decide +kernel
theorem dX1_freeBlock_37 : decode cX1_freeBlock 37 = .ok (.iinc 3 1, 3) := by decide +kernel
theorem dX1_freeBlock_40 : decode cX1_freeBlock 40 = .ok (.goto (-36), 3) := by decide +kernel
theorem dX1_freeBlock_43 : decode cX1_freeBlock 43 = .ok (.aload_n 0, 1) := by decide +kernel
theorem dX1_freeBlock_44 : decode cX1_freeBlock 44 = .ok (.iload_n 2, 1) := by decide +kernel
theorem dX1_freeBlock_45 : decode cX1_freeBlock 45 = .ok (.putfield 52, 3) := by decide +kernel
theorem dX1_freeBlock_48 : decode cX1_freeBlock 48 = .ok (.iconst 0, 1) := by decide +kernel
theorem dX1_freeBlock_49 : decode cX1_freeBlock 49 = .ok (.istore_n 3, 1) := by decide +kernel
theorem dX1_freeBlock_50 : decode cX1_freeBlock 50 = .ok (.iload_n 3, 1) := by decide +kernel
theorem dX1_freeBlock_51 : decode cX1_freeBlock 51 = .ok (.bipush 8, 2) := by decide +kernel
theorem dX1_freeBlock_53 : decode cX1_freeBlock 53 = .ok (.if_icmp .ge 21, 3) := by decide +kernel
theorem dX1_freeBlock_56 : decode cX1_freeBlock 56 = .ok (.aload_n 0, 1) := by decide +kernel
theorem dX1_freeBlock_57 : decode cX1_freeBlock 57 = .ok (.getfield 13, 3) := by decide +kernel
theorem dX1_freeBlock_60 : decode cX1_freeBlock 60 = .ok (.iload_n 1, 1) := by decide +kernel
theorem dX1_freeBlock_61 : decode cX1_freeBlock 61 = .ok (.bipush 8, 2) := by decide +kernel
theorem dX1_freeBlock_63 : decode cX1_freeBlock 63 = .ok (.imul, 1) := by decide +kernel
theorem dX1_freeBlock_64 : decode cX1_freeBlock 64 = .ok (.iload_n 3, 1) := by decide +kernel
theorem dX1_freeBlock_65 : decode cX1_freeBlock 65 = .ok (.iadd, 1) := by decide +kernel
theorem dX1_freeBlock_66 : decode cX1_freeBlock 66 = .ok (.iconst 0, 1) := by decide +kernel
theorem dX1_freeBlock_67 : decode cX1_freeBlock 67 = .ok (.bastore, 1) := by decide +kernel
theorem dX1_freeBlock_68 : decode cX1_freeBlock 68 = .ok (.iinc 3 1, 3) := by decide +kernel
theorem dX1_freeBlock_71 : decode cX1_freeBlock 71 = .ok (.goto (-21), 3) := by decide +kernel
theorem dX1_freeBlock_74 : decode cX1_freeBlock 74 = .ok (.aload_n 0, 1) := by decide +kernel
theorem dX1_freeBlock_75 : decode cX1_freeBlock 75 = .ok (.getfield 26, 3) := by decide +kernel
theorem dX1_freeBlock_78 : decode cX1_freeBlock 78 = .ok (.iload_n 1, 1) := by decide +kernel
theorem dX1_freeBlock_79 : decode cX1_freeBlock 79 = .ok (.lconst 0, 1) := by decide +kernel
theorem dX1_freeBlock_80 : decode cX1_freeBlock 80 = .ok (.lastore, 1) := by decide +kernel
theorem dX1_freeBlock_81 : decode cX1_freeBlock 81 = .ok (.ldc2_w 106, 3) := by decide +kernel
theorem dX1_freeBlock_84 : decode cX1_freeBlock 84 = .ok (.iload_n 1, 1) := by decide +kernel
theorem dX1_freeBlock_85 : decode cX1_freeBlock 85 = .ok (.bipush 8, 2) := by decide +kernel
theorem dX1_freeBlock_87 : decode cX1_freeBlock 87 = .ok (.imul, 1) := by decide +kernel
theorem dX1_freeBlock_88 : decode cX1_freeBlock 88 = .ok (.lshl, 1) := by decide +kernel
theorem dX1_freeBlock_89 : decode cX1_freeBlock 89 = .ok (.lstore_n 3, 1) := by decide +kernel
theorem dX1_freeBlock_90 : decode cX1_freeBlock 90 = .ok (.iconst 0, 1) := by decide +kernel
theorem dX1_freeBlock_91 : decode cX1_freeBlock 91 = .ok (.istore 5, 2) := by decide +kernel
theorem dX1_freeBlock_93 : decode cX1_freeBlock 93 = .ok (.iload 5, 2) := by decide +kernel
theorem dX1_freeBlock_95 : decode cX1_freeBlock 95 = .ok (.bipush 8, 2) := by decide +kernel
theorem dX1_freeBlock_97 : decode cX1_freeBlock 97 = .ok (.if_icmp .ge 24, 3) := by decide +kernel
theorem dX1_freeBlock_100 : decode cX1_freeBlock 100 = .ok (.aload_n 0, 1) := by decide +kernel
theorem dX1_freeBlock_101 : decode cX1_freeBlock 101 = .ok (.getfield 26, 3) := by decide +kernel
theorem dX1_freeBlock_104 : decode cX1_freeBlock 104 = .ok (.iload 5, 2) := by decide +kernel
theorem dX1_freeBlock_106 : decode cX1_freeBlock 106 = .ok (.dup2, 1) := by decide +kernel
theorem dX1_freeBlock_107 : decode cX1_freeBlock 107 = .ok (.laload, 1) := by decide +kernel
theorem dX1_freeBlock_108 : decode cX1_freeBlock 108 = .ok (.lload_n 3, 1) := by decide +kernel
theorem dX1_freeBlock_109 : decode cX1_freeBlock 109 = .ok (.ldc2_w 108, 3) := by decide +kernel
theorem dX1_freeBlock_112 : decode cX1_freeBlock 112 = .ok (.lxor, 1) := by decide +kernel
theorem dX1_freeBlock_113 : decode cX1_freeBlock 113 = .ok (.land, 1) := by decide +kernel
theorem dX1_freeBlock_114 : decode cX1_freeBlock 114 = .ok (.lastore, 1) := by decide +kernel
theorem dX1_freeBlock_115 : decode cX1_freeBlock 115 = .ok (.iinc 5 1, 3) := by decide +kernel
theorem dX1_freeBlock_118 : decode cX1_freeBlock 118 = .ok (.goto (-25), 3) := by decide +kernel
theorem dX1_freeBlock_121 : decode cX1_freeBlock 121 = .ok (.return_, 1) := by decide +kernel
theorem dX1_collectAll_0 : decode cX1_collectAll 0 = .ok (.aload_n 0, 1) := by decide +kernel
theorem dX1_collectAll_1 : decode cX1_collectAll 1 = .ok (.invokevirtual 116, 3) := by decide +kernel
theorem dX1_collectAll_4 : decode cX1_collectAll 4 = .ok (.iconst 0, 1) := by decide +kernel
theorem dX1_collectAll_5 : decode cX1_collectAll 5 = .ok (.istore_n 1, 1) := by decide +kernel
theorem dX1_collectAll_6 : decode cX1_collectAll 6 = .ok (.iload_n 1, 1) := by decide +kernel
theorem dX1_collectAll_7 : decode cX1_collectAll 7 = .ok (.bipush 64, 2) := by decide +kernel
theorem dX1_collectAll_9 : decode cX1_collectAll 9 = .ok (.if_icmp .ge 16, 3) := by decide +kernel
theorem dX1_collectAll_12 : decode cX1_collectAll 12 = .ok (.aload_n 0, 1) := by decide +kernel
theorem dX1_collectAll_13 : decode cX1_collectAll 13 = .ok (.getfield 30, 3) := by decide +kernel
theorem dX1_collectAll_16 : decode cX1_collectAll 16 = .ok (.iload_n 1, 1) := by decide +kernel
theorem dX1_collectAll_17 : decode cX1_collectAll 17 = .ok (.iconst 0, 1) := by decide +kernel
theorem dX1_collectAll_18 : decode cX1_collectAll 18 = .ok (.iastore, 1) := by decide +kernel
theorem dX1_collectAll_19 : decode cX1_collectAll 19 = .ok (.iinc 1 1, 3) := by decide +kernel
theorem dX1_collectAll_22 : decode cX1_collectAll 22 = .ok (.goto (-16), 3) := by decide +kernel
theorem dX1_collectAll_25 : decode cX1_collectAll 25 = .ok (.iconst 0, 1) := by decide +kernel
theorem dX1_collectAll_26 : decode cX1_collectAll 26 = .ok (.istore_n 1, 1) := by decide +kernel
theorem dX1_collectAll_27 : decode cX1_collectAll 27 = .ok (.iload_n 1, 1) := by decide +kernel
theorem dX1_collectAll_28 : decode cX1_collectAll 28 = .ok (.aload_n 0, 1) := by decide +kernel
theorem dX1_collectAll_29 : decode cX1_collectAll 29 = .ok (.getfield 55, 3) := by decide +kernel
theorem dX1_collectAll_32 : decode cX1_collectAll 32 = .ok (.if_icmp .ge 23, 3) := by decide +kernel
theorem dX1_collectAll_35 : decode cX1_collectAll 35 = .ok (.aload_n 0, 1) := by decide +kernel
theorem dX1_collectAll_36 : decode cX1_collectAll 36 = .ok (.getfield 30, 3) := by decide +kernel
theorem dX1_collectAll_39 : decode cX1_collectAll 39 = .ok (.aload_n 0, 1) := by decide +kernel
theorem dX1_collectAll_40 : decode cX1_collectAll 40 = .ok (.getfield 39, 3) := by decide +kernel
theorem dX1_collectAll_43 : decode cX1_collectAll 43 = .ok (.iload_n 1, 1) := by decide +kernel
theorem dX1_collectAll_44 : decode cX1_collectAll 44 = .ok (.iaload, 1) := by decide +kernel
theorem dX1_collectAll_45 : decode cX1_collectAll 45 = .ok (.iload_n 1, 1) := by decide +kernel
theorem dX1_collectAll_46 : decode cX1_collectAll 46 = .ok (.iconst 1, 1) := by decide +kernel
theorem dX1_collectAll_47 : decode cX1_collectAll 47 = .ok (.iadd, 1) := by decide +kernel
theorem dX1_collectAll_48 : decode cX1_collectAll 48 = .ok (.iastore, 1) := by decide +kernel
theorem dX1_collectAll_49 : decode cX1_collectAll 49 = .ok (.iinc 1 1, 3) := by decide +kernel
theorem dX1_collectAll_52 : decode cX1_collectAll 52 = .ok (.goto (-25), 3) := by decide +kernel
theorem dX1_collectAll_55 : decode cX1_collectAll 55 = .ok (.iconst 0, 1) := by decide +kernel
theorem dX1_collectAll_56 : decode cX1_collectAll 56 = .ok (.istore_n 1, 1) := by decide +kernel
theorem dX1_collectAll_57 : decode cX1_collectAll 57 = .ok (.iload_n 1, 1) := by decide +kernel
theorem dX1_collectAll_58 : decode cX1_collectAll 58 = .ok (.aload_n 0, 1) := by decide +kernel
theorem dX1_collectAll_59 : decode cX1_collectAll 59 = .ok (.getfield 55, 3) := by decide +kernel
theorem dX1_collectAll_62 : decode cX1_collectAll 62 = .ok (.if_icmp .ge 68, 3) := by decide +kernel
theorem dX1_collectAll_65 : decode cX1_collectAll 65 = .ok (.aload_n 0, 1) := by decide +kernel
theorem dX1_collectAll_66 : decode cX1_collectAll 66 = .ok (.getfield 42, 3) := by decide +kernel
theorem dX1_collectAll_69 : decode cX1_collectAll 69 = .ok (.iload_n 1, 1) := by decide +kernel
theorem dX1_collectAll_70 : decode cX1_collectAll 70 = .ok (.aload_n 0, 1) := by decide +kernel
theorem dX1_collectAll_71 : decode cX1_collectAll 71 = .ok (.getfield 17, 3) := by decide +kernel
theorem dX1_collectAll_74 : decode cX1_collectAll 74 = .ok (.aload_n 0, 1) := by decide +kernel
theorem dX1_collectAll_75 : decode cX1_collectAll 75 = .ok (.getfield 39, 3) := by decide +kernel
theorem dX1_collectAll_78 : decode cX1_collectAll 78 = .ok (.iload_n 1, 1) := by decide +kernel
theorem dX1_collectAll_79 : decode cX1_collectAll 79 = .ok (.iaload, 1) := by decide +kernel
theorem dX1_collectAll_80 : decode cX1_collectAll 80 = .ok (.iaload, 1) := by decide +kernel
theorem dX1_collectAll_81 : decode cX1_collectAll 81 = .ok (.iastore, 1) := by decide +kernel
theorem dX1_collectAll_82 : decode cX1_collectAll 82 = .ok (.iconst 0, 1) := by decide +kernel
theorem dX1_collectAll_83 : decode cX1_collectAll 83 = .ok (.istore_n 2, 1) := by decide +kernel
theorem dX1_collectAll_84 : decode cX1_collectAll 84 = .ok (.iload_n 2, 1) := by decide +kernel
theorem dX1_collectAll_85 : decode cX1_collectAll 85 = .ok (.iconst 3, 1) := by decide +kernel
theorem dX1_collectAll_86 : decode cX1_collectAll 86 = .ok (.if_icmp .ge 38, 3) := by decide +kernel
theorem dX1_collectAll_89 : decode cX1_collectAll 89 = .ok (.aload_n 0, 1) := by decide +kernel
theorem dX1_collectAll_90 : decode cX1_collectAll 90 = .ok (.getfield 45, 3) := by decide +kernel
theorem dX1_collectAll_93 : decode cX1_collectAll 93 = .ok (.iload_n 1, 1) := by decide +kernel
theorem dX1_collectAll_94 : decode cX1_collectAll 94 = .ok (.iconst 3, 1) := by decide +kernel
theorem dX1_collectAll_95 : decode cX1_collectAll 95 = .ok (.imul, 1) := by decide +kernel
theorem dX1_collectAll_96 : decode cX1_collectAll 96 = .ok (.iload_n 2, 1) := by decide +kernel
theorem dX1_collectAll_97 : decode cX1_collectAll 97 = .ok (.iadd, 1) := by decide +kernel
theorem dX1_collectAll_98 : decode cX1_collectAll 98 = .ok (.aload_n 0, 1) := by decide +kernel
theorem dX1_collectAll_99 : decode cX1_collectAll 99 = .ok (.aload_n 0, 1) := by decide +kernel
theorem dX1_collectAll_100 : decode cX1_collectAll 100 = .ok (.getfield 20, 3) := by decide +kernel
theorem dX1_collectAll_103 : decode cX1_collectAll 103 = .ok (.aload_n 0, 1) := by decide +kernel
theorem dX1_collectAll_104 : decode cX1_collectAll 104 = .ok (.getfield 39, 3) := by decide +kernel
theorem dX1_collectAll_107 : decode cX1_collectAll 107 = .ok (.iload_n 1, 1) := by decide +kernel
theorem dX1_collectAll_108 : decode cX1_collectAll 108 = .ok (.iaload, 1) := by decide +kernel
theorem dX1_collectAll_109 : decode cX1_collectAll 109 = .ok (.iconst 3, 1) := by decide +kernel
theorem dX1_collectAll_110 : decode cX1_collectAll 110 = .ok (.imul, 1) := by decide +kernel
theorem dX1_collectAll_111 : decode cX1_collectAll 111 = .ok (.iload_n 2, 1) := by decide +kernel
theorem dX1_collectAll_112 : decode cX1_collectAll 112 = .ok (.iadd, 1) := by decide +kernel
theorem dX1_collectAll_113 : decode cX1_collectAll 113 = .ok (.iaload, 1) := by decide +kernel
theorem dX1_collectAll_114 : decode cX1_collectAll 114 = .ok (.invokevirtual 119, 3) := by decide +kernel
theorem dX1_collectAll_117 : decode cX1_collectAll 117 = .ok (.iastore, 1) := by decide +kernel
theorem dX1_collectAll_118 : decode cX1_collectAll 118 = .ok (.iinc 2 1, 3) := by decide +kernel
theorem dX1_collectAll_121 : decode cX1_collectAll 121 = .ok (.goto (-37), 3) := by decide +kernel
theorem dX1_collectAll_124 : decode cX1_collectAll 124 = .ok (.iinc 1 1, 3) := by decide +kernel
theorem dX1_collectAll_127 : decode cX1_collectAll 127 = .ok (.goto (-70), 3) := by decide +kernel
theorem dX1_collectAll_130 : decode cX1_collectAll 130 = .ok (.iconst 0, 1) := by decide +kernel
theorem dX1_collectAll_131 : decode cX1_collectAll 131 = .ok (.istore_n 1, 1) := by decide +kernel
theorem dX1_collectAll_132 : decode cX1_collectAll 132 = .ok (.iload_n 1, 1) := by decide +kernel
theorem dX1_collectAll_133 : decode cX1_collectAll 133 = .ok (.bipush 8, 2) := by decide +kernel
theorem dX1_collectAll_135 : decode cX1_collectAll 135 = .ok (.if_icmp .ge 25, 3) := by decide +kernel
theorem dX1_collectAll_138 : decode cX1_collectAll 138 = .ok (.aload_n 0, 1) := by decide +kernel
theorem dX1_collectAll_139 : decode cX1_collectAll 139 = .ok (.getfield 7, 3) := by decide +kernel
theorem dX1_collectAll_142 : decode cX1_collectAll 142 = .ok (.iload_n 1, 1) := by decide +kernel
theorem dX1_collectAll_143 : decode cX1_collectAll 143 = .ok (.aload_n 0, 1) := by decide +kernel
theorem dX1_collectAll_144 : decode cX1_collectAll 144 = .ok (.aload_n 0, 1) := by decide +kernel
theorem dX1_collectAll_145 : decode cX1_collectAll 145 = .ok (.getfield 7, 3) := by decide +kernel
theorem dX1_collectAll_148 : decode cX1_collectAll 148 = .ok (.iload_n 1, 1) := by decide +kernel
theorem dX1_collectAll_149 : decode cX1_collectAll 149 = .ok (.iaload, 1) := by decide +kernel
theorem dX1_collectAll_150 : decode cX1_collectAll 150 = .ok (.invokevirtual 119, 3) := by decide +kernel
theorem dX1_collectAll_153 : decode cX1_collectAll 153 = .ok (.iastore, 1) := by decide +kernel
theorem dX1_collectAll_154 : decode cX1_collectAll 154 = .ok (.iinc 1 1, 3) := by decide +kernel
theorem dX1_collectAll_157 : decode cX1_collectAll 157 = .ok (.goto (-25), 3) := by decide +kernel
theorem dX1_collectAll_160 : decode cX1_collectAll 160 = .ok (.iconst 0, 1) := by decide +kernel
theorem dX1_collectAll_161 : decode cX1_collectAll 161 = .ok (.istore_n 1, 1) := by decide +kernel
theorem dX1_collectAll_162 : decode cX1_collectAll 162 = .ok (.iload_n 1, 1) := by decide +kernel
theorem dX1_collectAll_163 : decode cX1_collectAll 163 = .ok (.bipush 8, 2) := by decide +kernel
theorem dX1_collectAll_165 : decode cX1_collectAll 165 = .ok (.if_icmp .ge 16, 3) := by decide +kernel
theorem dX1_collectAll_168 : decode cX1_collectAll 168 = .ok (.aload_n 0, 1) := by decide +kernel
theorem dX1_collectAll_169 : decode cX1_collectAll 169 = .ok (.getfield 26, 3) := by decide +kernel
theorem dX1_collectAll_172 : decode cX1_collectAll 172 = .ok (.iload_n 1, 1) := by decide +kernel
theorem dX1_collectAll_173 : decode cX1_collectAll 173 = .ok (.lconst 0, 1) := by decide +kernel
theorem dX1_collectAll_174 : decode cX1_collectAll 174 = .ok (.lastore, 1) := by decide +kernel
theorem dX1_collectAll_175 : decode cX1_collectAll 175 = .ok (.iinc 1 1, 3) := by decide +kernel
theorem dX1_collectAll_178 : decode cX1_collectAll 178 = .ok (.goto (-16), 3) := by decide +kernel
theorem dX1_collectAll_181 : decode cX1_collectAll 181 = .ok (.iconst 0, 1) := by decide +kernel
theorem dX1_collectAll_182 : decode cX1_collectAll 182 = .ok (.istore_n 1, 1) := by decide +kernel
theorem dX1_collectAll_183 : decode cX1_collectAll 183 = .ok (.iload_n 1, 1) := by decide +kernel
theorem dX1_collectAll_184 : decode cX1_collectAll 184 = .ok (.bipush 64, 2) := by decide +kernel
theorem dX1_collectAll_186 : decode cX1_collectAll 186 = .ok (.if_icmp .ge 28, 3) := by decide +kernel
theorem dX1_collectAll_189 : decode cX1_collectAll 189 = .ok (.aload_n 0, 1) := by decide +kernel
theorem dX1_collectAll_190 : decode cX1_collectAll 190 = .ok (.getfield 13, 3) := by decide +kernel
theorem dX1_collectAll_193 : decode cX1_collectAll 193 = .ok (.iload_n 1, 1) := by decide +kernel
theorem dX1_collectAll_194 : decode cX1_collectAll 194 = .ok (.iload_n 1, 1) := by decide +kernel
theorem dX1_collectAll_195 : decode cX1_collectAll 195 = .ok (.aload_n 0, 1) := by decide +kernel
theorem dX1_collectAll_196 : decode cX1_collectAll 196 = .ok (.getfield 55, 3) := by decide +kernel
theorem dX1_collectAll_199 : decode cX1_collectAll 199 = .ok (.if_icmp .ge 7, 3) := by decide +kernel
theorem dX1_collectAll_202 : decode cX1_collectAll 202 = .ok (.iconst 1, 1) := by decide +kernel
theorem dX1_collectAll_203 : decode cX1_collectAll 203 = .ok (.goto 4, 3) := by decide +kernel
theorem dX1_collectAll_206 : decode cX1_collectAll 206 = .ok (.iconst 0, 1) := by decide +kernel
theorem dX1_collectAll_207 : decode cX1_collectAll 207 = .ok (.bastore, 1) := by decide +kernel
theorem dX1_collectAll_208 : decode cX1_collectAll 208 = .ok (.iinc 1 1, 3) := by decide +kernel
theorem dX1_collectAll_211 : decode cX1_collectAll 211 = .ok (.goto (-28), 3) := by decide +kernel
theorem dX1_collectAll_214 : decode cX1_collectAll 214 = .ok (.iconst 0, 1) := by decide +kernel
theorem dX1_collectAll_215 : decode cX1_collectAll 215 = .ok (.istore_n 1, 1) := by decide +kernel
theorem dX1_collectAll_216 : decode cX1_collectAll 216 = .ok (.iload_n 1, 1) := by decide +kernel
theorem dX1_collectAll_217 : decode cX1_collectAll 217 = .ok (.aload_n 0, 1) := by decide +kernel
theorem dX1_collectAll_218 : decode cX1_collectAll 218 = .ok (.getfield 55, 3) := by decide +kernel
theorem dX1_collectAll_221 : decode cX1_collectAll 221 = .ok (.if_icmp .ge 69, 3) := by decide +kernel
theorem dX1_collectAll_224 : decode cX1_collectAll 224 = .ok (.aload_n 0, 1) := by decide +kernel
end
section
set_option maxRecDepth 100000
theorem dX1_collectAll_225 : decode cX1_collectAll 225 = .ok (.getfield 17, 3) := by decide +kernel
theorem dX1_collectAll_228 : decode cX1_collectAll 228 = .ok (.iload_n 1, 1) := by decide +kernel
theorem dX1_collectAll_229 : decode cX1_collectAll 229 = .ok (.aload_n 0, 1) := by decide +kernel
theorem dX1_collectAll_230 : decode cX1_collectAll 230 = .ok (.getfield 42, 3) := by decide +kernel
theorem dX1_collectAll_233 : decode cX1_collectAll 233 = .ok (.iload_n 1, 1) := by decide +kernel
theorem dX1_collectAll_234 : decode cX1_collectAll 234 = .ok (.iaload, 1) := by decide +kernel
theorem dX1_collectAll_235 : decode cX1_collectAll 235 = .ok (.iastore, 1) := by decide +kernel
theorem dX1_collectAll_236 : decode cX1_collectAll 236 = .ok (.iconst 0, 1) := by decide +kernel
theorem dX1_collectAll_237 : decode cX1_collectAll 237 = .ok (.istore_n 2, 1) := by decide +kernel
theorem dX1_collectAll_238 : decode cX1_collectAll 238 = .ok (.iload_n 2, 1) := by decide +kernel
theorem dX1_collectAll_239 : decode cX1_collectAll 239 = .ok (.iconst 3, 1) := by decide +kernel
theorem dX1_collectAll_240 : decode cX1_collectAll 240 = .ok (.if_icmp .ge 44, 3) := by decide +kernel
theorem dX1_collectAll_243 : decode cX1_collectAll 243 = .ok (.aload_n 0, 1) := by decide +kernel
theorem dX1_collectAll_244 : decode cX1_collectAll 244 = .ok (.getfield 20, 3) := by decide +kernel
theorem dX1_collectAll_247 : decode cX1_collectAll 247 = .ok (.iload_n 1, 1) := by decide +kernel
theorem dX1_collectAll_248 : decode cX1_collectAll 248 = .ok (.iconst 3, 1) := by decide +kernel
theorem dX1_collectAll_249 : decode cX1_collectAll 249 = .ok (.imul, 1) := by decide +kernel
theorem dX1_collectAll_250 : decode cX1_collectAll 250 = .ok (.iload_n 2, 1) := by decide +kernel
theorem dX1_collectAll_251 : decode cX1_collectAll 251 = .ok (.iadd, 1) := by decide +kernel
theorem dX1_collectAll_252 : decode cX1_collectAll 252 = .ok (.aload_n 0, 1) := by decide +kernel
theorem dX1_collectAll_253 : decode cX1_collectAll 253 = .ok (.getfield 45, 3) := by decide +kernel
theorem dX1_collectAll_256 : decode cX1_collectAll 256 = .ok (.iload_n 1, 1) := by decide +kernel
theorem dX1_collectAll_257 : decode cX1_collectAll 257 = .ok (.iconst 3, 1) := by decide +kernel
theorem dX1_collectAll_258 : decode cX1_collectAll 258 = .ok (.imul, 1) := by decide +kernel
theorem dX1_collectAll_259 : decode cX1_collectAll 259 = .ok (.iload_n 2, 1) := by decide +kernel
theorem dX1_collectAll_260 : decode cX1_collectAll 260 = .ok (.iadd, 1) := by decide +kernel
theorem dX1_collectAll_261 : decode cX1_collectAll 261 = .ok (.iaload, 1) := by decide +kernel
theorem dX1_collectAll_262 : decode cX1_collectAll 262 = .ok (.iastore, 1) := by decide +kernel
theorem dX1_collectAll_263 : decode cX1_collectAll 263 = .ok (.aload_n 0, 1) := by decide +kernel
theorem dX1_collectAll_264 : decode cX1_collectAll 264 = .ok (.iload_n 1, 1) := by decide +kernel
theorem dX1_collectAll_265 : decode cX1_collectAll 265 = .ok (.aload_n 0, 1) := by decide +kernel
theorem dX1_collectAll_266 : decode cX1_collectAll 266 = .ok (.getfield 20, 3) := by decide +kernel
theorem dX1_collectAll_269 : decode cX1_collectAll 269 = .ok (.iload_n 1, 1) := by decide +kernel
theorem dX1_collectAll_270 : decode cX1_collectAll 270 = .ok (.iconst 3, 1) := by decide +kernel
theorem dX1_collectAll_271 : decode cX1_collectAll 271 = .ok (.imul, 1) := by decide +kernel
theorem dX1_collectAll_272 : decode cX1_collectAll 272 = .ok (.iload_n 2, 1) := by decide +kernel
theorem dX1_collectAll_273 : decode cX1_collectAll 273 = .ok (.iadd, 1) := by decide +kernel
theorem dX1_collectAll_274 : decode cX1_collectAll 274 = .ok (.iaload, 1) := by decide +kernel
theorem dX1_collectAll_275 : decode cX1_collectAll 275 = .ok (.invokevirtual 96, 3) := by decide +kernel
theorem dX1_collectAll_278 : decode cX1_collectAll 278 = .ok (.iinc 2 1, 3) := by decide +kernel
theorem dX1_collectAll_281 : decode cX1_collectAll 281 = .ok (.goto (-43), 3) := by decide +kernel
theorem dX1_collectAll_284 : decode cX1_collectAll 284 = .ok (.iinc 1 1, 3) := by decide +kernel
theorem dX1_collectAll_287 : decode cX1_collectAll 287 = .ok (.goto (-71), 3) := by decide +kernel
theorem dX1_collectAll_290 : decode cX1_collectAll 290 = .ok (.aload_n 0, 1) := by decide +kernel
theorem dX1_collectAll_291 : decode cX1_collectAll 291 = .ok (.aload_n 0, 1) := by decide +kernel
theorem dX1_collectAll_292 : decode cX1_collectAll 292 = .ok (.getfield 55, 3) := by decide +kernel
theorem dX1_collectAll_295 : decode cX1_collectAll 295 = .ok (.invokevirtual 122, 3) := by decide +kernel
theorem dX1_collectAll_298 : decode cX1_collectAll 298 = .ok (.return_, 1) := by decide +kernel
theorem dX1_moved_0 : decode cX1_moved 0 = .ok (.iload_n 1, 1) := by decide +kernel
theorem dX1_moved_1 : decode cX1_moved 1 = .ok (.ifCond .ne 7, 3) := by decide +kernel
theorem dX1_moved_4 : decode cX1_moved 4 = .ok (.iconst 0, 1) := by decide +kernel
theorem dX1_moved_5 : decode cX1_moved 5 = .ok (.goto 11, 3) := by decide +kernel
theorem dX1_moved_8 : decode cX1_moved 8 = .ok (.aload_n 0, 1) := by decide +kernel
theorem dX1_moved_9 : decode cX1_moved 9 = .ok (.getfield 30, 3) := by decide +kernel
theorem dX1_moved_12 : decode cX1_moved 12 = .ok (.iload_n 1, 1) := by decide +kernel
theorem dX1_moved_13 : decode cX1_moved 13 = .ok (.iconst 1, 1) := by decide +kernel
theorem dX1_moved_14 : decode cX1_moved 14 = .ok (.isub, 1) := by decide +kernel
theorem dX1_moved_15 : decode cX1_moved 15 = .ok (.iaload, 1) := by decide +kernel
theorem dX1_moved_16 : decode cX1_moved 16 = .ok (.ireturn, 1) := by decide +kernel
theorem dX1_layOut_0 : decode cX1_layOut 0 = .ok (.aload_n 0, 1) := by decide +kernel
theorem dX1_layOut_1 : decode cX1_layOut 1 = .ok (.iload_n 1, 1) := by decide +kernel
theorem dX1_layOut_2 : decode cX1_layOut 2 = .ok (.ifCond .ne 7, 3) := by decide +kernel
theorem dX1_layOut_5 : decode cX1_layOut 5 = .ok (.iconst 1, 1) := by decide +kernel
theorem dX1_layOut_6 : decode cX1_layOut 6 = .ok (.goto 12, 3) := by decide +kernel
theorem dX1_layOut_9 : decode cX1_layOut 9 = .ok (.iload_n 1, 1) := by decide +kernel
theorem dX1_layOut_10 : decode cX1_layOut 10 = .ok (.bipush 8, 2) := by decide +kernel
theorem dX1_layOut_12 : decode cX1_layOut 12 = .ok (.iadd, 1) := by decide +kernel
theorem dX1_layOut_13 : decode cX1_layOut 13 = .ok (.iconst 1, 1) := by decide +kernel
theorem dX1_layOut_14 : decode cX1_layOut 14 = .ok (.isub, 1) := by decide +kernel
theorem dX1_layOut_15 : decode cX1_layOut 15 = .ok (.bipush 8, 2) := by decide +kernel
theorem dX1_layOut_17 : decode cX1_layOut 17 = .ok (.idiv, 1) := by decide +kernel
theorem dX1_layOut_18 : decode cX1_layOut 18 = .ok (.putfield 52, 3) := by decide +kernel
theorem dX1_layOut_21 : decode cX1_layOut 21 = .ok (.iconst 0, 1) := by decide +kernel
theorem dX1_layOut_22 : decode cX1_layOut 22 = .ok (.istore_n 2, 1) := by decide +kernel
theorem dX1_layOut_23 : decode cX1_layOut 23 = .ok (.iload_n 2, 1) := by decide +kernel
theorem dX1_layOut_24 : decode cX1_layOut 24 = .ok (.aload_n 0, 1) := by decide +kernel
theorem dX1_layOut_25 : decode cX1_layOut 25 = .ok (.getfield 52, 3) := by decide +kernel
theorem dX1_layOut_28 : decode cX1_layOut 28 = .ok (.if_icmp .ge 16, 3) := by decide +kernel
theorem dX1_layOut_31 : decode cX1_layOut 31 = .ok (.aload_n 0, 1) := by decide +kernel
theorem dX1_layOut_32 : decode cX1_layOut 32 = .ok (.getfield 23, 3) := by decide +kernel
theorem dX1_layOut_35 : decode cX1_layOut 35 = .ok (.iload_n 2, 1) := by decide +kernel
theorem dX1_layOut_36 : decode cX1_layOut 36 = .ok (.iload_n 2, 1) := by decide +kernel
theorem dX1_layOut_37 : decode cX1_layOut 37 = .ok (.iastore, 1) := by decide +kernel
theorem dX1_layOut_38 : decode cX1_layOut 38 = .ok (.iinc 2 1, 3) := by decide +kernel
theorem dX1_layOut_41 : decode cX1_layOut 41 = .ok (.goto (-18), 3) := by decide +kernel
theorem dX1_layOut_44 : decode cX1_layOut 44 = .ok (.aload_n 0, 1) := by decide +kernel
theorem dX1_layOut_45 : decode cX1_layOut 45 = .ok (.iload_n 1, 1) := by decide +kernel
theorem dX1_layOut_46 : decode cX1_layOut 46 = .ok (.aload_n 0, 1) := by decide +kernel
theorem dX1_layOut_47 : decode cX1_layOut 47 = .ok (.getfield 52, 3) := by decide +kernel
theorem dX1_layOut_50 : decode cX1_layOut 50 = .ok (.iconst 1, 1) := by decide +kernel
theorem dX1_layOut_51 : decode cX1_layOut 51 = .ok (.isub, 1) := by decide +kernel
theorem dX1_layOut_52 : decode cX1_layOut 52 = .ok (.bipush 8, 2) := by decide +kernel
theorem dX1_layOut_54 : decode cX1_layOut 54 = .ok (.imul, 1) := by decide +kernel
theorem dX1_layOut_55 : decode cX1_layOut 55 = .ok (.isub, 1) := by decide +kernel
theorem dX1_layOut_56 : decode cX1_layOut 56 = .ok (.putfield 72, 3) := by decide +kernel
theorem dX1_layOut_59 : decode cX1_layOut 59 = .ok (.aload_n 0, 1) := by decide +kernel
theorem dX1_layOut_60 : decode cX1_layOut 60 = .ok (.iconst 0, 1) := by decide +kernel
theorem dX1_layOut_61 : decode cX1_layOut 61 = .ok (.putfield 110, 3) := by decide +kernel
theorem dX1_layOut_64 : decode cX1_layOut 64 = .ok (.return_, 1) := by decide +kernel
theorem dX1_copyRoot_0 : decode cX1_copyRoot 0 = .ok (.iload_n 1, 1) := by decide +kernel
theorem dX1_copyRoot_1 : decode cX1_copyRoot 1 = .ok (.invokestatic 131, 3) := by decide +kernel
theorem dX1_copyRoot_4 : decode cX1_copyRoot 4 = .ok (.ifCond .ne 10, 3) := by decide +kernel
theorem dX1_copyRoot_7 : decode cX1_copyRoot 7 = .ok (.iload_n 2, 1) := by decide +kernel
theorem dX1_copyRoot_8 : decode cX1_copyRoot 8 = .ok (.invokestatic 131, 3) := by decide +kernel
theorem dX1_copyRoot_11 : decode cX1_copyRoot 11 = .ok (.ifCond .eq 5, 3) := by decide +kernel
theorem dX1_copyRoot_14 : decode cX1_copyRoot 14 = .ok (.iconst (-1), 1) := by decide +kernel
theorem dX1_copyRoot_15 : decode cX1_copyRoot 15 = .ok (.ireturn, 1) := by decide +kernel
theorem dX1_copyRoot_16 : decode cX1_copyRoot 16 = .ok (.aload_n 0, 1) := by decide +kernel
theorem dX1_copyRoot_17 : decode cX1_copyRoot 17 = .ok (.getfield 7, 3) := by decide +kernel
theorem dX1_copyRoot_20 : decode cX1_copyRoot 20 = .ok (.iload_n 2, 1) := by decide +kernel
theorem dX1_copyRoot_21 : decode cX1_copyRoot 21 = .ok (.aload_n 0, 1) := by decide +kernel
theorem dX1_copyRoot_22 : decode cX1_copyRoot 22 = .ok (.getfield 7, 3) := by decide +kernel
theorem dX1_copyRoot_25 : decode cX1_copyRoot 25 = .ok (.iload_n 1, 1) := by decide +kernel
theorem dX1_copyRoot_26 : decode cX1_copyRoot 26 = .ok (.iaload, 1) := by decide +kernel
theorem dX1_copyRoot_27 : decode cX1_copyRoot 27 = .ok (.iastore, 1) := by decide +kernel
theorem dX1_copyRoot_28 : decode cX1_copyRoot 28 = .ok (.iconst 0, 1) := by decide +kernel
theorem dX1_copyRoot_29 : decode cX1_copyRoot 29 = .ok (.ireturn, 1) := by decide +kernel
theorem dX1_drop_0 : decode cX1_drop 0 = .ok (.iload_n 1, 1) := by decide +kernel
theorem dX1_drop_1 : decode cX1_drop 1 = .ok (.invokestatic 131, 3) := by decide +kernel
theorem dX1_drop_4 : decode cX1_drop 4 = .ok (.ifCond .eq 5, 3) := by decide +kernel
theorem dX1_drop_7 : decode cX1_drop 7 = .ok (.iconst (-1), 1) := by decide +kernel
theorem dX1_drop_8 : decode cX1_drop 8 = .ok (.ireturn, 1) := by decide +kernel
theorem dX1_drop_9 : decode cX1_drop 9 = .ok (.aload_n 0, 1) := by decide +kernel
theorem dX1_drop_10 : decode cX1_drop 10 = .ok (.getfield 7, 3) := by decide +kernel
theorem dX1_drop_13 : decode cX1_drop 13 = .ok (.iload_n 1, 1) := by decide +kernel
theorem dX1_drop_14 : decode cX1_drop 14 = .ok (.iconst 0, 1) := by decide +kernel
theorem dX1_drop_15 : decode cX1_drop 15 = .ok (.iastore, 1) := by decide +kernel
theorem dX1_drop_16 : decode cX1_drop 16 = .ok (.iconst 0, 1) := by decide +kernel
theorem dX1_drop_17 : decode cX1_drop 17 = .ok (.ireturn, 1) := by decide +kernel
theorem dX1_load_0 : decode cX1_load 0 = .ok (.iload_n 1, 1) := by decide +kernel
theorem dX1_load_1 : decode cX1_load 1 = .ok (.invokestatic 131, 3) := by decide +kernel
theorem dX1_load_4 : decode cX1_load 4 = .ok (.ifCond .ne 10, 3) := by decide +kernel
theorem dX1_load_7 : decode cX1_load 7 = .ok (.iload_n 3, 1) := by decide +kernel
theorem dX1_load_8 : decode cX1_load 8 = .ok (.invokestatic 131, 3) := by decide +kernel
theorem dX1_load_11 : decode cX1_load 11 = .ok (.ifCond .eq 5, 3) := by decide +kernel
theorem dX1_load_14 : decode cX1_load 14 = .ok (.iconst (-1), 1) := by decide +kernel
theorem dX1_load_15 : decode cX1_load 15 = .ok (.ireturn, 1) := by decide +kernel
theorem dX1_load_16 : decode cX1_load 16 = .ok (.iload_n 2, 1) := by decide +kernel
theorem dX1_load_17 : decode cX1_load 17 = .ok (.invokestatic 137, 3) := by decide +kernel
theorem dX1_load_20 : decode cX1_load 20 = .ok (.ifCond .eq 6, 3) := by decide +kernel
theorem dX1_load_23 : decode cX1_load 23 = .ok (.bipush (-2), 2) := by decide +kernel
theorem dX1_load_25 : decode cX1_load 25 = .ok (.ireturn, 1) := by decide +kernel
theorem dX1_load_26 : decode cX1_load 26 = .ok (.aload_n 0, 1) := by decide +kernel
theorem dX1_load_27 : decode cX1_load 27 = .ok (.getfield 7, 3) := by decide +kernel
theorem dX1_load_30 : decode cX1_load 30 = .ok (.iload_n 1, 1) := by decide +kernel
theorem dX1_load_31 : decode cX1_load 31 = .ok (.iaload, 1) := by decide +kernel
theorem dX1_load_32 : decode cX1_load 32 = .ok (.ifCond .ne 6, 3) := by decide +kernel
theorem dX1_load_35 : decode cX1_load 35 = .ok (.bipush (-3), 2) := by decide +kernel
theorem dX1_load_37 : decode cX1_load 37 = .ok (.ireturn, 1) := by decide +kernel
theorem dX1_load_38 : decode cX1_load 38 = .ok (.aload_n 0, 1) := by decide +kernel
theorem dX1_load_39 : decode cX1_load 39 = .ok (.getfield 7, 3) := by decide +kernel
theorem dX1_load_42 : decode cX1_load 42 = .ok (.iload_n 3, 1) := by decide +kernel
theorem dX1_load_43 : decode cX1_load 43 = .ok (.aload_n 0, 1) := by decide +kernel
theorem dX1_load_44 : decode cX1_load 44 = .ok (.getfield 20, 3) := by decide +kernel
theorem dX1_load_47 : decode cX1_load 47 = .ok (.aload_n 0, 1) := by decide +kernel
theorem dX1_load_48 : decode cX1_load 48 = .ok (.getfield 7, 3) := by decide +kernel
theorem dX1_load_51 : decode cX1_load 51 = .ok (.iload_n 1, 1) := by decide +kernel
theorem dX1_load_52 : decode cX1_load 52 = .ok (.iaload, 1) := by decide +kernel
theorem dX1_load_53 : decode cX1_load 53 = .ok (.iconst 1, 1) := by decide +kernel
theorem dX1_load_54 : decode cX1_load 54 = .ok (.isub, 1) := by decide +kernel
theorem dX1_load_55 : decode cX1_load 55 = .ok (.iconst 3, 1) := by decide +kernel
theorem dX1_load_56 : decode cX1_load 56 = .ok (.imul, 1) := by decide +kernel
theorem dX1_load_57 : decode cX1_load 57 = .ok (.iload_n 2, 1) := by decide +kernel
theorem dX1_load_58 : decode cX1_load 58 = .ok (.iadd, 1) := by decide +kernel
theorem dX1_load_59 : decode cX1_load 59 = .ok (.iaload, 1) := by decide +kernel
theorem dX1_load_60 : decode cX1_load 60 = .ok (.iastore, 1) := by decide +kernel
theorem dX1_load_61 : decode cX1_load 61 = .ok (.iconst 0, 1) := by decide +kernel
theorem dX1_load_62 : decode cX1_load 62 = .ok (.ireturn, 1) := by decide +kernel
theorem dX1_badField_0 : decode cX1_badField 0 = .ok (.iload_n 0, 1) := by decide +kernel
theorem dX1_badField_1 : decode cX1_badField 1 = .ok (.ifCond .lt 8, 3) := by decide +kernel
theorem dX1_badField_4 : decode cX1_badField 4 = .ok (.iload_n 0, 1) := by decide +kernel
theorem dX1_badField_5 : decode cX1_badField 5 = .ok (.iconst 2, 1) := by decide +kernel
theorem dX1_badField_6 : decode cX1_badField 6 = .ok (.if_icmp .le 7, 3) := by decide +kernel
theorem dX1_badField_9 : decode cX1_badField 9 = .ok (.iconst 1, 1) := by decide +kernel
theorem dX1_badField_10 : decode cX1_badField 10 = .ok (.goto 4, 3) := by decide +kernel
theorem dX1_badField_13 : decode cX1_badField 13 = .ok (.iconst 0, 1) := by decide +kernel
theorem dX1_badField_14 : decode cX1_badField 14 = .ok (.ireturn, 1) := by decide +kernel
theorem dX1_store_0 : decode cX1_store 0 = .ok (.iload_n 1, 1) := by decide +kernel
theorem dX1_store_1 : decode cX1_store 1 = .ok (.invokestatic 131, 3) := by decide +kernel
theorem dX1_store_4 : decode cX1_store 4 = .ok (.ifCond .ne 10, 3) := by decide +kernel
theorem dX1_store_7 : decode cX1_store 7 = .ok (.iload_n 3, 1) := by decide +kernel
theorem dX1_store_8 : decode cX1_store 8 = .ok (.invokestatic 131, 3) := by decide +kernel
theorem dX1_store_11 : decode cX1_store 11 = .ok (.ifCond .eq 5, 3) := by decide +kernel
theorem dX1_store_14 : decode cX1_store 14 = .ok (.iconst (-1), 1) := by decide +kernel
theorem dX1_store_15 : decode cX1_store 15 = .ok (.ireturn, 1) := by decide +kernel
theorem dX1_store_16 : decode cX1_store 16 = .ok (.iload_n 2, 1) := by decide +kernel
theorem dX1_store_17 : decode cX1_store 17 = .ok (.invokestatic 137, 3) := by decide +kernel
theorem dX1_store_20 : decode cX1_store 20 = .ok (.ifCond .eq 6, 3) := by decide +kernel
theorem dX1_store_23 : decode cX1_store 23 = .ok (.bipush (-2), 2) := by decide +kernel
theorem dX1_store_25 : decode cX1_store 25 = .ok (.ireturn, 1) := by decide +kernel
theorem dX1_store_26 : decode cX1_store 26 = .ok (.aload_n 0, 1) := by decide +kernel
theorem dX1_store_27 : decode cX1_store 27 = .ok (.getfield 7, 3) := by decide +kernel
theorem dX1_store_30 : decode cX1_store 30 = .ok (.iload_n 1, 1) := by decide +kernel
theorem dX1_store_31 : decode cX1_store 31 = .ok (.iaload, 1) := by decide +kernel
theorem dX1_store_32 : decode cX1_store 32 = .ok (.ifCond .ne 6, 3) := by decide +kernel
theorem dX1_store_35 : decode cX1_store 35 = .ok (.bipush (-3), 2) := by decide +kernel
theorem dX1_store_37 : decode cX1_store 37 = .ok (.ireturn, 1) := by decide +kernel
theorem dX1_store_38 : decode cX1_store 38 = .ok (.aload_n 0, 1) := by decide +kernel
theorem dX1_store_39 : decode cX1_store 39 = .ok (.getfield 7, 3) := by decide +kernel
theorem dX1_store_42 : decode cX1_store 42 = .ok (.iload_n 1, 1) := by decide +kernel
theorem dX1_store_43 : decode cX1_store 43 = .ok (.iaload, 1) := by decide +kernel
theorem dX1_store_44 : decode cX1_store 44 = .ok (.iconst 1, 1) := by decide +kernel
theorem dX1_store_45 : decode cX1_store 45 = .ok (.isub, 1) := by decide +kernel
theorem dX1_store_46 : decode cX1_store 46 = .ok (.istore 4, 2) := by decide +kernel
theorem dX1_store_48 : decode cX1_store 48 = .ok (.aload_n 0, 1) := by decide +kernel
theorem dX1_store_49 : decode cX1_store 49 = .ok (.getfield 20, 3) := by decide +kernel
theorem dX1_store_52 : decode cX1_store 52 = .ok (.iload 4, 2) := by decide +kernel
theorem dX1_store_54 : decode cX1_store 54 = .ok (.iconst 3, 1) := by decide +kernel
theorem dX1_store_55 : decode cX1_store 55 = .ok (.imul, 1) := by decide +kernel
theorem dX1_store_56 : decode cX1_store 56 = .ok (.iload_n 2, 1) := by decide +kernel
theorem dX1_store_57 : decode cX1_store 57 = .ok (.iadd, 1) := by decide +kernel
theorem dX1_store_58 : decode cX1_store 58 = .ok (.aload_n 0, 1) := by decide +kernel
theorem dX1_store_59 : decode cX1_store 59 = .ok (.getfield 7, 3) := by decide +kernel
theorem dX1_store_62 : decode cX1_store 62 = .ok (.iload_n 3, 1) := by decide +kernel
theorem dX1_store_63 : decode cX1_store 63 = .ok (.iaload, 1) := by decide +kernel
theorem dX1_store_64 : decode cX1_store 64 = .ok (.iastore, 1) := by decide +kernel
theorem dX1_store_65 : decode cX1_store 65 = .ok (.aload_n 0, 1) := by decide +kernel
theorem dX1_store_66 : decode cX1_store 66 = .ok (.iload 4, 2) := by decide +kernel
theorem dX1_store_68 : decode cX1_store 68 = .ok (.aload_n 0, 1) := by decide +kernel
theorem dX1_store_69 : decode cX1_store 69 = .ok (.getfield 7, 3) := by decide +kernel
theorem dX1_store_72 : decode cX1_store 72 = .ok (.iload_n 3, 1) := by decide +kernel
theorem dX1_store_73 : decode cX1_store 73 = .ok (.iaload, 1) := by decide +kernel
theorem dX1_store_74 : decode cX1_store 74 = .ok (.invokevirtual 96, 3) := by decide +kernel
theorem dX1_store_77 : decode cX1_store 77 = .ok (.iconst 0, 1) := by decide +kernel
theorem dX1_store_78 : decode cX1_store 78 = .ok (.ireturn, 1) := by decide +kernel
theorem dX1_setPayload_0 : decode cX1_setPayload 0 = .ok (.iload_n 1, 1) := by decide +kernel
theorem dX1_setPayload_1 : decode cX1_setPayload 1 = .ok (.invokestatic 131, 3) := by decide +kernel
theorem dX1_setPayload_4 : decode cX1_setPayload 4 = .ok (.ifCond .eq 5, 3) := by decide +kernel
theorem dX1_setPayload_7 : decode cX1_setPayload 7 = .ok (.iconst (-1), 1) := by decide +kernel
theorem dX1_setPayload_8 : decode cX1_setPayload 8 = .ok (.ireturn, 1) := by decide +kernel
theorem dX1_setPayload_9 : decode cX1_setPayload 9 = .ok (.aload_n 0, 1) := by decide +kernel
theorem dX1_setPayload_10 : decode cX1_setPayload 10 = .ok (.getfield 7, 3) := by decide +kernel
theorem dX1_setPayload_13 : decode cX1_setPayload 13 = .ok (.iload_n 1, 1) := by decide +kernel
theorem dX1_setPayload_14 : decode cX1_setPayload 14 = .ok (.iaload, 1) := by decide +kernel
theorem dX1_setPayload_15 : decode cX1_setPayload 15 = .ok (.ifCond .ne 6, 3) := by decide +kernel
theorem dX1_setPayload_18 : decode cX1_setPayload 18 = .ok (.bipush (-3), 2) := by decide +kernel
theorem dX1_setPayload_20 : decode cX1_setPayload 20 = .ok (.ireturn, 1) := by decide +kernel
theorem dX1_setPayload_21 : decode cX1_setPayload 21 = .ok (.aload_n 0, 1) := by decide +kernel
theorem dX1_setPayload_22 : decode cX1_setPayload 22 = .ok (.getfield 17, 3) := by decide +kernel
theorem dX1_setPayload_25 : decode cX1_setPayload 25 = .ok (.aload_n 0, 1) := by decide +kernel
theorem dX1_setPayload_26 : decode cX1_setPayload 26 = .ok (.getfield 7, 3) := by decide +kernel
theorem dX1_setPayload_29 : decode cX1_setPayload 29 = .ok (.iload_n 1, 1) := by decide +kernel
theorem dX1_setPayload_30 : decode cX1_setPayload 30 = .ok (.iaload, 1) := by decide +kernel
theorem dX1_setPayload_31 : decode cX1_setPayload 31 = .ok (.iconst 1, 1) := by decide +kernel
theorem dX1_setPayload_32 : decode cX1_setPayload 32 = .ok (.isub, 1) := by decide +kernel
theorem dX1_setPayload_33 : decode cX1_setPayload 33 = .ok (.iload_n 2, 1) := by decide +kernel
theorem dX1_setPayload_34 : decode cX1_setPayload 34 = .ok (.iastore, 1) := by decide +kernel
theorem dX1_setPayload_35 : decode cX1_setPayload 35 = .ok (.iconst 0, 1) := by decide +kernel
theorem dX1_setPayload_36 : decode cX1_setPayload 36 = .ok (.ireturn, 1) := by decide +kernel
theorem dX1_collect_0 : decode cX1_collect 0 = .ok (.iconst 0, 1) := by decide +kernel
theorem dX1_collect_1 : decode cX1_collect 1 = .ok (.istore_n 1, 1) := by decide +kernel
theorem dX1_collect_2 : decode cX1_collect 2 = .ok (.iload_n 1, 1) := by decide +kernel
theorem dX1_collect_3 : decode cX1_collect 3 = .ok (.aload_n 0, 1) := by decide +kernel
theorem dX1_collect_4 : decode cX1_collect 4 = .ok (.getfield 48, 3) := by decide +kernel
theorem dX1_collect_7 : decode cX1_collect 7 = .ok (.if_icmp .ge 13, 3) := by decide +kernel
theorem dX1_collect_10 : decode cX1_collect 10 = .ok (.aload_n 0, 1) := by decide +kernel
theorem dX1_collect_11 : decode cX1_collect 11 = .ok (.invokevirtual 125, 3) := by decide +kernel
theorem dX1_collect_14 : decode cX1_collect 14 = .ok (.iinc 1 1, 3) := by decide +kernel
theorem dX1_collect_17 : decode cX1_collect 17 = .ok (.goto (-15), 3) := by decide +kernel
theorem dX1_collect_20 : decode cX1_collect 20 = .ok (.return_, 1) := by decide +kernel
theorem dX1_payload_0 : decode cX1_payload 0 = .ok (.aload_n 0, 1) := by decide +kernel
theorem dX1_payload_1 : decode cX1_payload 1 = .ok (.iload_n 1, 1) := by decide +kernel
theorem dX1_payload_2 : decode cX1_payload 2 = .ok (.invokevirtual 140, 3) := by decide +kernel
theorem dX1_payload_5 : decode cX1_payload 5 = .ok (.ifCond .eq 7, 3) := by decide +kernel
theorem dX1_payload_8 : decode cX1_payload 8 = .ok (.iconst 0, 1) := by decide +kernel
theorem dX1_payload_9 : decode cX1_payload 9 = .ok (.goto 16, 3) := by decide +kernel
theorem dX1_payload_12 : decode cX1_payload 12 = .ok (.aload_n 0, 1) := by decide +kernel
theorem dX1_payload_13 : decode cX1_payload 13 = .ok (.getfield 17, 3) := by decide +kernel
theorem dX1_payload_16 : decode cX1_payload 16 = .ok (.aload_n 0, 1) := by decide +kernel
theorem dX1_payload_17 : decode cX1_payload 17 = .ok (.getfield 7, 3) := by decide +kernel
theorem dX1_payload_20 : decode cX1_payload 20 = .ok (.iload_n 1, 1) := by decide +kernel
theorem dX1_payload_21 : decode cX1_payload 21 = .ok (.iaload, 1) := by decide +kernel
theorem dX1_payload_22 : decode cX1_payload 22 = .ok (.iconst 1, 1) := by decide +kernel
theorem dX1_payload_23 : decode cX1_payload 23 = .ok (.isub, 1) := by decide +kernel
theorem dX1_payload_24 : decode cX1_payload 24 = .ok (.iaload, 1) := by decide +kernel
theorem dX1_payload_25 : decode cX1_payload 25 = .ok (.ireturn, 1) := by decide +kernel
theorem dX1_empty_0 : decode cX1_empty 0 = .ok (.iload_n 1, 1) := by decide +kernel
theorem dX1_empty_1 : decode cX1_empty 1 = .ok (.invokestatic 131, 3) := by decide +kernel
theorem dX1_empty_4 : decode cX1_empty 4 = .ok (.ifCond .ne 12, 3) := by decide +kernel
theorem dX1_empty_7 : decode cX1_empty 7 = .ok (.aload_n 0, 1) := by decide +kernel
theorem dX1_empty_8 : decode cX1_empty 8 = .ok (.getfield 7, 3) := by decide +kernel
theorem dX1_empty_11 : decode cX1_empty 11 = .ok (.iload_n 1, 1) := by decide +kernel
theorem dX1_empty_12 : decode cX1_empty 12 = .ok (.iaload, 1) := by decide +kernel
theorem dX1_empty_13 : decode cX1_empty 13 = .ok (.ifCond .ne 7, 3) := by decide +kernel
theorem dX1_empty_16 : decode cX1_empty 16 = .ok (.iconst 1, 1) := by decide +kernel
theorem dX1_empty_17 : decode cX1_empty 17 = .ok (.goto 4, 3) := by decide +kernel
theorem dX1_empty_20 : decode cX1_empty 20 = .ok (.iconst 0, 1) := by decide +kernel
theorem dX1_empty_21 : decode cX1_empty 21 = .ok (.ireturn, 1) := by decide +kernel
theorem dX1_held_0 : decode cX1_held 0 = .ok (.aload_n 0, 1) := by decide +kernel
theorem dX1_held_1 : decode cX1_held 1 = .ok (.iload_n 1, 1) := by decide +kernel
theorem dX1_held_2 : decode cX1_held 2 = .ok (.invokevirtual 140, 3) := by decide +kernel
theorem dX1_held_5 : decode cX1_held 5 = .ok (.ifCond .ne 7, 3) := by decide +kernel
theorem dX1_held_8 : decode cX1_held 8 = .ok (.iconst 1, 1) := by decide +kernel
theorem dX1_held_9 : decode cX1_held 9 = .ok (.goto 4, 3) := by decide +kernel
theorem dX1_held_12 : decode cX1_held 12 = .ok (.iconst 0, 1) := by decide +kernel
theorem dX1_held_13 : decode cX1_held 13 = .ok (.ireturn, 1) := by decide +kernel
theorem dX1_same_0 : decode cX1_same 0 = .ok (.aload_n 0, 1) := by decide +kernel
theorem dX1_same_1 : decode cX1_same 1 = .ok (.iload_n 1, 1) := by decide +kernel
theorem dX1_same_2 : decode cX1_same 2 = .ok (.invokevirtual 140, 3) := by decide +kernel
theorem dX1_same_5 : decode cX1_same 5 = .ok (.ifCond .ne 11, 3) := by decide +kernel
theorem dX1_same_8 : decode cX1_same 8 = .ok (.aload_n 0, 1) := by decide +kernel
theorem dX1_same_9 : decode cX1_same 9 = .ok (.iload_n 2, 1) := by decide +kernel
theorem dX1_same_10 : decode cX1_same 10 = .ok (.invokevirtual 140, 3) := by decide +kernel
theorem dX1_same_13 : decode cX1_same 13 = .ok (.ifCond .eq 5, 3) := by decide +kernel
theorem dX1_same_16 : decode cX1_same 16 = .ok (.iconst 0, 1) := by decide +kernel
theorem dX1_same_17 : decode cX1_same 17 = .ok (.ireturn, 1) := by decide +kernel
theorem dX1_same_18 : decode cX1_same 18 = .ok (.aload_n 0, 1) := by decide +kernel
theorem dX1_same_19 : decode cX1_same 19 = .ok (.getfield 7, 3) := by decide +kernel
theorem dX1_same_22 : decode cX1_same 22 = .ok (.iload_n 1, 1) := by decide +kernel
theorem dX1_same_23 : decode cX1_same 23 = .ok (.iaload, 1) := by decide +kernel
theorem dX1_same_24 : decode cX1_same 24 = .ok (.aload_n 0, 1) := by decide +kernel
theorem dX1_same_25 : decode cX1_same 25 = .ok (.getfield 7, 3) := by decide +kernel
theorem dX1_same_28 : decode cX1_same 28 = .ok (.iload_n 2, 1) := by decide +kernel
theorem dX1_same_29 : decode cX1_same 29 = .ok (.iaload, 1) := by decide +kernel
theorem dX1_same_30 : decode cX1_same 30 = .ok (.if_icmp .ne 7, 3) := by decide +kernel
theorem dX1_same_33 : decode cX1_same 33 = .ok (.iconst 1, 1) := by decide +kernel
theorem dX1_same_34 : decode cX1_same 34 = .ok (.goto 4, 3) := by decide +kernel
theorem dX1_same_37 : decode cX1_same 37 = .ok (.iconst 0, 1) := by decide +kernel
theorem dX1_same_38 : decode cX1_same 38 = .ok (.ireturn, 1) := by decide +kernel
theorem dX1_reachable_0 : decode cX1_reachable 0 = .ok (.aload_n 0, 1) := by decide +kernel
theorem dX1_reachable_1 : decode cX1_reachable 1 = .ok (.invokevirtual 116, 3) := by decide +kernel
theorem dX1_reachable_4 : decode cX1_reachable 4 = .ok (.aload_n 0, 1) := by decide +kernel
theorem dX1_reachable_5 : decode cX1_reachable 5 = .ok (.getfield 55, 3) := by decide +kernel
theorem dX1_reachable_8 : decode cX1_reachable 8 = .ok (.ireturn, 1) := by decide +kernel
theorem dX1_reachableFrom_0 : decode cX1_reachableFrom 0 = .ok (.aload_n 0, 1) := by decide +kernel
theorem dX1_reachableFrom_1 : decode cX1_reachableFrom 1 = .ok (.iload_n 1, 1) := by decide +kernel
theorem dX1_reachableFrom_2 : decode cX1_reachableFrom 2 = .ok (.invokevirtual 140, 3) := by decide +kernel
theorem dX1_reachableFrom_5 : decode cX1_reachableFrom 5 = .ok (.ifCond .eq 5, 3) := by decide +kernel
theorem dX1_reachableFrom_8 : decode cX1_reachableFrom 8 = .ok (.iconst 0, 1) := by decide +kernel
theorem dX1_reachableFrom_9 : decode cX1_reachableFrom 9 = .ok (.ireturn, 1) := by decide +kernel
theorem dX1_reachableFrom_10 : decode cX1_reachableFrom 10 = .ok (.aload_n 0, 1) := by decide +kernel
theorem dX1_reachableFrom_11 : decode cX1_reachableFrom 11 = .ok (.invokevirtual 62, 3) := by decide +kernel
theorem dX1_reachableFrom_14 : decode cX1_reachableFrom 14 = .ok (.aload_n 0, 1) := by decide +kernel
theorem dX1_reachableFrom_15 : decode cX1_reachableFrom 15 = .ok (.aload_n 0, 1) := by decide +kernel
theorem dX1_reachableFrom_16 : decode cX1_reachableFrom 16 = .ok (.getfield 7, 3) := by decide +kernel
theorem dX1_reachableFrom_19 : decode cX1_reachableFrom 19 = .ok (.iload_n 1, 1) := by decide +kernel
theorem dX1_reachableFrom_20 : decode cX1_reachableFrom 20 = .ok (.iaload, 1) := by decide +kernel
theorem dX1_reachableFrom_21 : decode cX1_reachableFrom 21 = .ok (.iconst 0, 1) := by decide +kernel
theorem dX1_reachableFrom_22 : decode cX1_reachableFrom 22 = .ok (.invokevirtual 58, 3) := by decide +kernel
theorem dX1_reachableFrom_25 : decode cX1_reachableFrom 25 = .ok (.aload_n 0, 1) := by decide +kernel
theorem dX1_reachableFrom_26 : decode cX1_reachableFrom 26 = .ok (.invokevirtual 65, 3) := by decide +kernel
theorem dX1_reachableFrom_29 : decode cX1_reachableFrom 29 = .ok (.aload_n 0, 1) := by decide +kernel
theorem dX1_reachableFrom_30 : decode cX1_reachableFrom 30 = .ok (.getfield 55, 3) := by decide +kernel
theorem dX1_reachableFrom_33 : decode cX1_reachableFrom 33 = .ok (.ireturn, 1) := by decide +kernel
theorem dX1_distance_0 : decode cX1_distance 0 = .ok (.aload_n 0, 1) := by decide +kernel
theorem dX1_distance_1 : decode cX1_distance 1 = .ok (.iload_n 1, 1) := by decide +kernel
theorem dX1_distance_2 : decode cX1_distance 2 = .ok (.invokevirtual 140, 3) := by decide +kernel
theorem dX1_distance_5 : decode cX1_distance 5 = .ok (.ifCond .ne 11, 3) := by decide +kernel
theorem dX1_distance_8 : decode cX1_distance 8 = .ok (.aload_n 0, 1) := by decide +kernel
theorem dX1_distance_9 : decode cX1_distance 9 = .ok (.iload_n 2, 1) := by decide +kernel
theorem dX1_distance_10 : decode cX1_distance 10 = .ok (.invokevirtual 140, 3) := by decide +kernel
theorem dX1_distance_13 : decode cX1_distance 13 = .ok (.ifCond .eq 6, 3) := by decide +kernel
theorem dX1_distance_16 : decode cX1_distance 16 = .ok (.bipush (-3), 2) := by decide +kernel
theorem dX1_distance_18 : decode cX1_distance 18 = .ok (.ireturn, 1) := by decide +kernel
theorem dX1_distance_19 : decode cX1_distance 19 = .ok (.aload_n 0, 1) := by decide +kernel
theorem dX1_distance_20 : decode cX1_distance 20 = .ok (.invokevirtual 62, 3) := by decide +kernel
theorem dX1_distance_23 : decode cX1_distance 23 = .ok (.aload_n 0, 1) := by decide +kernel
theorem dX1_distance_24 : decode cX1_distance 24 = .ok (.aload_n 0, 1) := by decide +kernel
theorem dX1_distance_25 : decode cX1_distance 25 = .ok (.getfield 7, 3) := by decide +kernel
theorem dX1_distance_28 : decode cX1_distance 28 = .ok (.iload_n 1, 1) := by decide +kernel
theorem dX1_distance_29 : decode cX1_distance 29 = .ok (.iaload, 1) := by decide +kernel
theorem dX1_distance_30 : decode cX1_distance 30 = .ok (.iconst 0, 1) := by decide +kernel
theorem dX1_distance_31 : decode cX1_distance 31 = .ok (.invokevirtual 58, 3) := by decide +kernel
theorem dX1_distance_34 : decode cX1_distance 34 = .ok (.aload_n 0, 1) := by decide +kernel
theorem dX1_distance_35 : decode cX1_distance 35 = .ok (.invokevirtual 65, 3) := by decide +kernel
theorem dX1_distance_38 : decode cX1_distance 38 = .ok (.aload_n 0, 1) := by decide +kernel
theorem dX1_distance_39 : decode cX1_distance 39 = .ok (.getfield 36, 3) := by decide +kernel
theorem dX1_distance_42 : decode cX1_distance 42 = .ok (.aload_n 0, 1) := by decide +kernel
theorem dX1_distance_43 : decode cX1_distance 43 = .ok (.getfield 7, 3) := by decide +kernel
theorem dX1_distance_46 : decode cX1_distance 46 = .ok (.iload_n 2, 1) := by decide +kernel
theorem dX1_distance_47 : decode cX1_distance 47 = .ok (.iaload, 1) := by decide +kernel
theorem dX1_distance_48 : decode cX1_distance 48 = .ok (.iconst 1, 1) := by decide +kernel
theorem dX1_distance_49 : decode cX1_distance 49 = .ok (.isub, 1) := by decide +kernel
theorem dX1_distance_50 : decode cX1_distance 50 = .ok (.iaload, 1) := by decide +kernel
theorem dX1_distance_51 : decode cX1_distance 51 = .ok (.istore_n 3, 1) := by decide +kernel
theorem dX1_distance_52 : decode cX1_distance 52 = .ok (.iload_n 3, 1) := by decide +kernel
theorem dX1_distance_53 : decode cX1_distance 53 = .ok (.ifCond .ge 8, 3) := by decide +kernel
theorem dX1_distance_56 : decode cX1_distance 56 = .ok (.bipush (-3), 2) := by decide +kernel
theorem dX1_distance_58 : decode cX1_distance 58 = .ok (.goto 4, 3) := by decide +kernel
theorem dX1_distance_61 : decode cX1_distance 61 = .ok (.iload_n 3, 1) := by decide +kernel
theorem dX1_distance_62 : decode cX1_distance 62 = .ok (.ireturn, 1) := by decide +kernel
theorem dX1_sum_0 : decode cX1_sum 0 = .ok (.aload_n 0, 1) := by decide +kernel
theorem dX1_sum_1 : decode cX1_sum 1 = .ok (.invokevirtual 116, 3) := by decide +kernel
theorem dX1_sum_4 : decode cX1_sum 4 = .ok (.iconst 0, 1) := by decide +kernel
theorem dX1_sum_5 : decode cX1_sum 5 = .ok (.istore_n 1, 1) := by decide +kernel
theorem dX1_sum_6 : decode cX1_sum 6 = .ok (.iconst 0, 1) := by decide +kernel
theorem dX1_sum_7 : decode cX1_sum 7 = .ok (.istore_n 2, 1) := by decide +kernel
theorem dX1_sum_8 : decode cX1_sum 8 = .ok (.iload_n 2, 1) := by decide +kernel
theorem dX1_sum_9 : decode cX1_sum 9 = .ok (.aload_n 0, 1) := by decide +kernel
theorem dX1_sum_10 : decode cX1_sum 10 = .ok (.getfield 55, 3) := by decide +kernel
theorem dX1_sum_13 : decode cX1_sum 13 = .ok (.if_icmp .ge 23, 3) := by decide +kernel
theorem dX1_sum_16 : decode cX1_sum 16 = .ok (.iload_n 1, 1) := by decide +kernel
theorem dX1_sum_17 : decode cX1_sum 17 = .ok (.aload_n 0, 1) := by decide +kernel
theorem dX1_sum_18 : decode cX1_sum 18 = .ok (.getfield 17, 3) := by decide +kernel
theorem dX1_sum_21 : decode cX1_sum 21 = .ok (.aload_n 0, 1) := by decide +kernel
theorem dX1_sum_22 : decode cX1_sum 22 = .ok (.getfield 39, 3) := by decide +kernel
theorem dX1_sum_25 : decode cX1_sum 25 = .ok (.iload_n 2, 1) := by decide +kernel
theorem dX1_sum_26 : decode cX1_sum 26 = .ok (.iaload, 1) := by decide +kernel
theorem dX1_sum_27 : decode cX1_sum 27 = .ok (.iaload, 1) := by decide +kernel
theorem dX1_sum_28 : decode cX1_sum 28 = .ok (.iadd, 1) := by decide +kernel
theorem dX1_sum_29 : decode cX1_sum 29 = .ok (.istore_n 1, 1) := by decide +kernel
theorem dX1_sum_30 : decode cX1_sum 30 = .ok (.iinc 2 1, 3) := by decide +kernel
theorem dX1_sum_33 : decode cX1_sum 33 = .ok (.goto (-25), 3) := by decide +kernel
theorem dX1_sum_36 : decode cX1_sum 36 = .ok (.iload_n 1, 1) := by decide +kernel
theorem dX1_sum_37 : decode cX1_sum 37 = .ok (.ireturn, 1) := by decide +kernel
end
section
set_option maxRecDepth 100000
theorem dX2_init_0 : decode cX2_init 0 = .ok (.aload_n 0, 1) := by decide +kernel
theorem dX2_init_1 : decode cX2_init 1 = .ok (.invokespecial 1, 3) := by decide +kernel
theorem dX2_init_4 : decode cX2_init 4 = .ok (.aload_n 0, 1) := by decide +kernel
theorem dX2_init_5 : decode cX2_init 5 = .ok (.bipush 8, 2) := by decide +kernel
theorem dX2_init_7 : decode cX2_init 7 = .ok (.newarray .int, 2) := by decide +kernel
theorem dX2_init_9 : decode cX2_init 9 = .ok (.putfield 7, 3) := by decide +kernel
theorem dX2_init_12 : decode cX2_init 12 = .ok (.aload_n 0, 1) := by decide +kernel
theorem dX2_init_13 : decode cX2_init 13 = .ok (.bipush 72, 2) := by decide +kernel
theorem dX2_init_15 : decode cX2_init 15 = .ok (.newarray .int, 2) := by decide +kernel
theorem dX2_init_17 : decode cX2_init 17 = .ok (.putfield 13, 3) := by decide +kernel
theorem dX2_init_20 : decode cX2_init 20 = .ok (.aload_n 0, 1) := by decide +kernel
theorem dX2_init_21 : decode cX2_init 21 = .ok (.bipush 24, 2) := by decide +kernel
theorem dX2_init_23 : decode cX2_init 23 = .ok (.newarray .int, 2) := by decide +kernel
theorem dX2_init_25 : decode cX2_init 25 = .ok (.putfield 16, 3) := by decide +kernel
theorem dX2_init_28 : decode cX2_init 28 = .ok (.aload_n 0, 1) := by decide +kernel
theorem dX2_init_29 : decode cX2_init 29 = .ok (.bipush 24, 2) := by decide +kernel
theorem dX2_init_31 : decode cX2_init 31 = .ok (.newarray .int, 2) := by decide +kernel
theorem dX2_init_33 : decode cX2_init 33 = .ok (.putfield 19, 3) := by decide +kernel
theorem dX2_init_36 : decode cX2_init 36 = .ok (.iconst 0, 1) := by decide +kernel
theorem dX2_init_37 : decode cX2_init 37 = .ok (.istore_n 2, 1) := by decide +kernel
theorem dX2_init_38 : decode cX2_init 38 = .ok (.iload_n 2, 1) := by decide +kernel
theorem dX2_init_39 : decode cX2_init 39 = .ok (.bipush 8, 2) := by decide +kernel
theorem dX2_init_41 : decode cX2_init 41 = .ok (.if_icmp .ge 16, 3) := by decide +kernel
theorem dX2_init_44 : decode cX2_init 44 = .ok (.aload_n 0, 1) := by decide +kernel
theorem dX2_init_45 : decode cX2_init 45 = .ok (.getfield 7, 3) := by decide +kernel
theorem dX2_init_48 : decode cX2_init 48 = .ok (.iload_n 2, 1) := by decide +kernel
theorem dX2_init_49 : decode cX2_init 49 = .ok (.iconst (-1), 1) := by decide +kernel
theorem dX2_init_50 : decode cX2_init 50 = .ok (.iastore, 1) := by decide +kernel
theorem dX2_init_51 : decode cX2_init 51 = .ok (.iinc 2 1, 3) := by decide +kernel
theorem dX2_init_54 : decode cX2_init 54 = .ok (.goto (-16), 3) := by decide +kernel
theorem dX2_init_57 : decode cX2_init 57 = .ok (.return_, 1) := by decide +kernel
theorem dX2_make_0 : decode cX2_make 0 = .ok (.aload_n 0, 1) := by decide +kernel
theorem dX2_make_1 : decode cX2_make 1 = .ok (.iload_n 1, 1) := by decide +kernel
theorem dX2_make_2 : decode cX2_make 2 = .ok (.invokevirtual 22, 3) := by decide +kernel
theorem dX2_make_5 : decode cX2_make 5 = .ok (.ifCond .ne 5, 3) := by decide +kernel
theorem dX2_make_8 : decode cX2_make 8 = .ok (.iconst (-1), 1) := by decide +kernel
theorem dX2_make_9 : decode cX2_make 9 = .ok (.ireturn, 1) := by decide +kernel
theorem dX2_make_10 : decode cX2_make 10 = .ok (.aload_n 0, 1) := by decide +kernel
theorem dX2_make_11 : decode cX2_make 11 = .ok (.invokevirtual 26, 3) := by decide +kernel
theorem dX2_make_14 : decode cX2_make 14 = .ok (.bipush 24, 2) := by decide +kernel
theorem dX2_make_16 : decode cX2_make 16 = .ok (.if_icmp .ne 6, 3) := by decide +kernel
theorem dX2_make_19 : decode cX2_make 19 = .ok (.bipush (-4), 2) := by decide +kernel
theorem dX2_make_21 : decode cX2_make 21 = .ok (.ireturn, 1) := by decide +kernel
theorem dX2_make_22 : decode cX2_make 22 = .ok (.iconst (-1), 1) := by decide +kernel
theorem dX2_make_23 : decode cX2_make 23 = .ok (.istore_n 3, 1) := by decide +kernel
theorem dX2_make_24 : decode cX2_make 24 = .ok (.iconst 0, 1) := by decide +kernel
theorem dX2_make_25 : decode cX2_make 25 = .ok (.istore 4, 2) := by decide +kernel
theorem dX2_make_27 : decode cX2_make 27 = .ok (.iload 4, 2) := by decide +kernel
theorem dX2_make_29 : decode cX2_make 29 = .ok (.bipush 24, 2) := by decide +kernel
theorem dX2_make_31 : decode cX2_make 31 = .ok (.if_icmp .ge 25, 3) := by decide +kernel
theorem dX2_make_34 : decode cX2_make 34 = .ok (.aload_n 0, 1) := by decide +kernel
theorem dX2_make_35 : decode cX2_make 35 = .ok (.getfield 19, 3) := by decide +kernel
theorem dX2_make_38 : decode cX2_make 38 = .ok (.iload 4, 2) := by decide +kernel
theorem dX2_make_40 : decode cX2_make 40 = .ok (.iaload, 1) := by decide +kernel
theorem dX2_make_41 : decode cX2_make 41 = .ok (.sipush 1000, 3) := by decide +kernel
theorem dX2_make_44 : decode cX2_make 44 = .ok (.if_icmp .ne 6, 3) := by decide +kernel
theorem dX2_make_47 : decode cX2_make 47 = .ok (.iload 4, 2) := by decide +kernel
theorem dX2_make_49 : decode cX2_make 49 = .ok (.istore_n 3, 1) := by decide +kernel
theorem dX2_make_50 : decode cX2_make 50 = .ok (.iinc 4 1, 3) := by decide +kernel
theorem dX2_make_53 : decode cX2_make 53 = .ok (.goto (-26), 3) := by decide +kernel
theorem dX2_make_56 : decode cX2_make 56 = .ok (.iconst 0, 1) := by decide +kernel
theorem dX2_make_57 : decode cX2_make 57 = .ok (.istore 4, 2) := by decide +kernel
theorem dX2_make_59 : decode cX2_make 59 = .ok (.iload 4, 2) := by decide +kernel
theorem dX2_make_61 : decode cX2_make 61 = .ok (.iconst 3, 1) := by decide +kernel
theorem dX2_make_62 : decode cX2_make 62 = .ok (.if_icmp .ge 21, 3) := by decide +kernel
theorem dX2_make_65 : decode cX2_make 65 = .ok (.aload_n 0, 1) := by decide +kernel
theorem dX2_make_66 : decode cX2_make 66 = .ok (.getfield 13, 3) := by decide +kernel
theorem dX2_make_69 : decode cX2_make 69 = .ok (.iload_n 3, 1) := by decide +kernel
theorem dX2_make_70 : decode cX2_make 70 = .ok (.iconst 3, 1) := by decide +kernel
theorem dX2_make_71 : decode cX2_make 71 = .ok (.imul, 1) := by decide +kernel
theorem dX2_make_72 : decode cX2_make 72 = .ok (.iload 4, 2) := by decide +kernel
theorem dX2_make_74 : decode cX2_make 74 = .ok (.iadd, 1) := by decide +kernel
theorem dX2_make_75 : decode cX2_make 75 = .ok (.iconst (-1), 1) := by decide +kernel
theorem dX2_make_76 : decode cX2_make 76 = .ok (.iastore, 1) := by decide +kernel
theorem dX2_make_77 : decode cX2_make 77 = .ok (.iinc 4 1, 3) := by decide +kernel
theorem dX2_make_80 : decode cX2_make 80 = .ok (.goto (-21), 3) := by decide +kernel
theorem dX2_make_83 : decode cX2_make 83 = .ok (.aload_n 0, 1) := by decide +kernel
theorem dX2_make_84 : decode cX2_make 84 = .ok (.getfield 16, 3) := by decide +kernel
theorem dX2_make_87 : decode cX2_make 87 = .ok (.iload_n 3, 1) := by decide +kernel
theorem dX2_make_88 : decode cX2_make 88 = .ok (.iload_n 2, 1) := by decide +kernel
theorem dX2_make_89 : decode cX2_make 89 = .ok (.iastore, 1) := by decide +kernel
theorem dX2_make_90 : decode cX2_make 90 = .ok (.aload_n 0, 1) := by decide +kernel
theorem dX2_make_91 : decode cX2_make 91 = .ok (.getfield 7, 3) := by decide +kernel
theorem dX2_make_94 : decode cX2_make 94 = .ok (.iload_n 1, 1) := by decide +kernel
theorem dX2_make_95 : decode cX2_make 95 = .ok (.iload_n 3, 1) := by decide +kernel
theorem dX2_make_96 : decode cX2_make 96 = .ok (.iastore, 1) := by decide +kernel
theorem dX2_make_97 : decode cX2_make 97 = .ok (.iconst 0, 1) := by decide +kernel
theorem dX2_make_98 : decode cX2_make 98 = .ok (.ireturn, 1) := by decide +kernel
theorem dX2_isRoot_0 : decode cX2_isRoot 0 = .ok (.iload_n 1, 1) := by decide +kernel
theorem dX2_isRoot_1 : decode cX2_isRoot 1 = .ok (.ifCond .lt 13, 3) := by decide +kernel
theorem dX2_isRoot_4 : decode cX2_isRoot 4 = .ok (.iload_n 1, 1) := by decide +kernel
theorem dX2_isRoot_5 : decode cX2_isRoot 5 = .ok (.bipush 8, 2) := by decide +kernel
theorem dX2_isRoot_7 : decode cX2_isRoot 7 = .ok (.if_icmp .ge 7, 3) := by decide +kernel
theorem dX2_isRoot_10 : decode cX2_isRoot 10 = .ok (.iconst 1, 1) := by decide +kernel
theorem dX2_isRoot_11 : decode cX2_isRoot 11 = .ok (.goto 4, 3) := by decide +kernel
theorem dX2_isRoot_14 : decode cX2_isRoot 14 = .ok (.iconst 0, 1) := by decide +kernel
theorem dX2_isRoot_15 : decode cX2_isRoot 15 = .ok (.ireturn, 1) := by decide +kernel
theorem dX2_reachable_0 : decode cX2_reachable 0 = .ok (.aload_n 0, 1) := by decide +kernel
theorem dX2_reachable_1 : decode cX2_reachable 1 = .ok (.iconst (-1), 1) := by decide +kernel
theorem dX2_reachable_2 : decode cX2_reachable 2 = .ok (.invokevirtual 41, 3) := by decide +kernel
theorem dX2_reachable_5 : decode cX2_reachable 5 = .ok (.aload_n 0, 1) := by decide +kernel
theorem dX2_reachable_6 : decode cX2_reachable 6 = .ok (.invokevirtual 45, 3) := by decide +kernel
theorem dX2_reachable_9 : decode cX2_reachable 9 = .ok (.ireturn, 1) := by decide +kernel
theorem dX2_spread_0 : decode cX2_spread 0 = .ok (.iconst 0, 1) := by decide +kernel
theorem dX2_spread_1 : decode cX2_spread 1 = .ok (.istore_n 2, 1) := by decide +kernel
theorem dX2_spread_2 : decode cX2_spread 2 = .ok (.iload_n 2, 1) := by decide +kernel
theorem dX2_spread_3 : decode cX2_spread 3 = .ok (.bipush 24, 2) := by decide +kernel
theorem dX2_spread_5 : decode cX2_spread 5 = .ok (.if_icmp .ge 18, 3) := by decide +kernel
theorem dX2_spread_8 : decode cX2_spread 8 = .ok (.aload_n 0, 1) := by decide +kernel
theorem dX2_spread_9 : decode cX2_spread 9 = .ok (.getfield 19, 3) := by decide +kernel
theorem dX2_spread_12 : decode cX2_spread 12 = .ok (.iload_n 2, 1) := by decide +kernel
theorem dX2_spread_13 : decode cX2_spread 13 = .ok (.sipush 1000, 3) := by decide +kernel
theorem dX2_spread_16 : decode cX2_spread 16 = .ok (.iastore, 1) := by decide +kernel
theorem dX2_spread_17 : decode cX2_spread 17 = .ok (.iinc 2 1, 3) := by decide +kernel
theorem dX2_spread_20 : decode cX2_spread 20 = .ok (.goto (-18), 3) := by decide +kernel
theorem dX2_spread_23 : decode cX2_spread 23 = .ok (.iconst 0, 1) := by decide +kernel
theorem dX2_spread_24 : decode cX2_spread 24 = .ok (.istore_n 2, 1) := by decide +kernel
theorem dX2_spread_25 : decode cX2_spread 25 = .ok (.iload_n 2, 1) := by decide +kernel
theorem dX2_spread_26 : decode cX2_spread 26 = .ok (.bipush 8, 2) := by decide +kernel
theorem dX2_spread_28 : decode cX2_spread 28 = .ok (.if_icmp .ge 39, 3) := by decide +kernel
theorem dX2_spread_31 : decode cX2_spread 31 = .ok (.iload_n 1, 1) := by decide +kernel
theorem dX2_spread_32 : decode cX2_spread 32 = .ok (.ifCond .lt 8, 3) := by decide +kernel
theorem dX2_spread_35 : decode cX2_spread 35 = .ok (.iload_n 1, 1) := by decide +kernel
theorem dX2_spread_36 : decode cX2_spread 36 = .ok (.iload_n 2, 1) := by decide +kernel
theorem dX2_spread_37 : decode cX2_spread 37 = .ok (.if_icmp .ne 24, 3) := by decide +kernel
theorem dX2_spread_40 : decode cX2_spread 40 = .ok (.aload_n 0, 1) := by decide +kernel
theorem dX2_spread_41 : decode cX2_spread 41 = .ok (.getfield 7, 3) := by decide +kernel
theorem dX2_spread_44 : decode cX2_spread 44 = .ok (.iload_n 2, 1) := by decide +kernel
theorem dX2_spread_45 : decode cX2_spread 45 = .ok (.iaload, 1) := by decide +kernel
theorem dX2_spread_46 : decode cX2_spread 46 = .ok (.ifCond .lt 15, 3) := by decide +kernel
theorem dX2_spread_49 : decode cX2_spread 49 = .ok (.aload_n 0, 1) := by decide +kernel
theorem dX2_spread_50 : decode cX2_spread 50 = .ok (.getfield 19, 3) := by decide +kernel
theorem dX2_spread_53 : decode cX2_spread 53 = .ok (.aload_n 0, 1) := by decide +kernel
theorem dX2_spread_54 : decode cX2_spread 54 = .ok (.getfield 7, 3) := by decide +kernel
theorem dX2_spread_57 : decode cX2_spread 57 = .ok (.iload_n 2, 1) := by decide +kernel
theorem dX2_spread_58 : decode cX2_spread 58 = .ok (.iaload, 1) := by decide +kernel
theorem dX2_spread_59 : decode cX2_spread 59 = .ok (.iconst 0, 1) := by decide +kernel
theorem dX2_spread_60 : decode cX2_spread 60 = .ok (.iastore, 1) := by decide +kernel
theorem dX2_spread_61 : decode cX2_spread 61 = .ok (.iinc 2 1, 3) := by decide +kernel
theorem dX2_spread_64 : decode cX2_spread 64 = .ok (.goto (-39), 3) := by decide +kernel
theorem dX2_spread_67 : decode cX2_spread 67 = .ok (.iconst 0, 1) := by decide +kernel
theorem dX2_spread_68 : decode cX2_spread 68 = .ok (.istore_n 2, 1) := by decide +kernel
theorem dX2_spread_69 : decode cX2_spread 69 = .ok (.iload_n 2, 1) := by decide +kernel
theorem dX2_spread_70 : decode cX2_spread 70 = .ok (.bipush 24, 2) := by decide +kernel
theorem dX2_spread_72 : decode cX2_spread 72 = .ok (.if_icmp .ge 89, 3) := by decide +kernel
theorem dX2_spread_75 : decode cX2_spread 75 = .ok (.iconst 0, 1) := by decide +kernel
theorem dX2_spread_76 : decode cX2_spread 76 = .ok (.istore_n 3, 1) := by decide +kernel
theorem dX2_spread_77 : decode cX2_spread 77 = .ok (.iload_n 3, 1) := by decide +kernel
theorem dX2_spread_78 : decode cX2_spread 78 = .ok (.bipush 72, 2) := by decide +kernel
theorem dX2_spread_80 : decode cX2_spread 80 = .ok (.if_icmp .ge 75, 3) := by decide +kernel
theorem dX2_spread_83 : decode cX2_spread 83 = .ok (.iload_n 3, 1) := by decide +kernel
theorem dX2_spread_84 : decode cX2_spread 84 = .ok (.iconst 3, 1) := by decide +kernel
theorem dX2_spread_85 : decode cX2_spread 85 = .ok (.idiv, 1) := by decide +kernel
theorem dX2_spread_86 : decode cX2_spread 86 = .ok (.istore 4, 2) := by decide +kernel
theorem dX2_spread_88 : decode cX2_spread 88 = .ok (.aload_n 0, 1) := by decide +kernel
theorem dX2_spread_89 : decode cX2_spread 89 = .ok (.getfield 13, 3) := by decide +kernel
theorem dX2_spread_92 : decode cX2_spread 92 = .ok (.iload_n 3, 1) := by decide +kernel
theorem dX2_spread_93 : decode cX2_spread 93 = .ok (.iaload, 1) := by decide +kernel
theorem dX2_spread_94 : decode cX2_spread 94 = .ok (.istore 5, 2) := by decide +kernel
theorem dX2_spread_96 : decode cX2_spread 96 = .ok (.aload_n 0, 1) := by decide +kernel
theorem dX2_spread_97 : decode cX2_spread 97 = .ok (.getfield 19, 3) := by decide +kernel
theorem dX2_spread_100 : decode cX2_spread 100 = .ok (.iload 4, 2) := by decide +kernel
theorem dX2_spread_102 : decode cX2_spread 102 = .ok (.iaload, 1) := by decide +kernel
theorem dX2_spread_103 : decode cX2_spread 103 = .ok (.sipush 1000, 3) := by decide +kernel
theorem dX2_spread_106 : decode cX2_spread 106 = .ok (.if_icmp .ge 43, 3) := by decide +kernel
theorem dX2_spread_109 : decode cX2_spread 109 = .ok (.iload 5, 2) := by decide +kernel
theorem dX2_spread_111 : decode cX2_spread 111 = .ok (.ifCond .lt 38, 3) := by decide +kernel
theorem dX2_spread_114 : decode cX2_spread 114 = .ok (.aload_n 0, 1) := by decide +kernel
theorem dX2_spread_115 : decode cX2_spread 115 = .ok (.getfield 19, 3) := by decide +kernel
theorem dX2_spread_118 : decode cX2_spread 118 = .ok (.iload 4, 2) := by decide +kernel
theorem dX2_spread_120 : decode cX2_spread 120 = .ok (.iaload, 1) := by decide +kernel
theorem dX2_spread_121 : decode cX2_spread 121 = .ok (.iconst 1, 1) := by decide +kernel
theorem dX2_spread_122 : decode cX2_spread 122 = .ok (.iadd, 1) := by decide +kernel
theorem dX2_spread_123 : decode cX2_spread 123 = .ok (.aload_n 0, 1) := by decide +kernel
theorem dX2_spread_124 : decode cX2_spread 124 = .ok (.getfield 19, 3) := by decide +kernel
theorem dX2_spread_127 : decode cX2_spread 127 = .ok (.iload 5, 2) := by decide +kernel
theorem dX2_spread_129 : decode cX2_spread 129 = .ok (.iaload, 1) := by decide +kernel
theorem dX2_spread_130 : decode cX2_spread 130 = .ok (.if_icmp .ge 19, 3) := by decide +kernel
theorem dX2_spread_133 : decode cX2_spread 133 = .ok (.aload_n 0, 1) := by decide +kernel
theorem dX2_spread_134 : decode cX2_spread 134 = .ok (.getfield 19, 3) := by decide +kernel
theorem dX2_spread_137 : decode cX2_spread 137 = .ok (.iload 5, 2) := by decide +kernel
theorem dX2_spread_139 : decode cX2_spread 139 = .ok (.aload_n 0, 1) := by decide +kernel
theorem dX2_spread_140 : decode cX2_spread 140 = .ok (.getfield 19, 3) := by decide +kernel
theorem dX2_spread_143 : decode cX2_spread 143 = .ok (.iload 4, 2) := by decide +kernel
theorem dX2_spread_145 : decode cX2_spread 145 = .ok (.iaload, 1) := by decide +kernel
theorem dX2_spread_146 : decode cX2_spread 146 = .ok (.iconst 1, 1) := by decide +kernel
theorem dX2_spread_147 : decode cX2_spread 147 = .ok (.iadd, 1) := by decide +kernel
theorem dX2_spread_148 : decode cX2_spread 148 = .ok (.iastore, 1) := by decide +kernel
theorem dX2_spread_149 : decode cX2_spread 149 = .ok (.iinc 3 1, 3) := by decide +kernel
theorem dX2_spread_152 : decode cX2_spread 152 = .ok (.goto (-75), 3) := by decide +kernel
theorem dX2_spread_155 : decode cX2_spread 155 = .ok (.iinc 2 1, 3) := by decide +kernel
theorem dX2_spread_158 : decode cX2_spread 158 = .ok (.goto (-89), 3) := by decide +kernel
theorem dX2_spread_161 : decode cX2_spread 161 = .ok (.return_, 1) := by decide +kernel
theorem dX2_found_0 : decode cX2_found 0 = .ok (.iconst 0, 1) := by decide +kernel
theorem dX2_found_1 : decode cX2_found 1 = .ok (.istore_n 1, 1) := by decide +kernel
theorem dX2_found_2 : decode cX2_found 2 = .ok (.iconst 0, 1) := by decide +kernel
theorem dX2_found_3 : decode cX2_found 3 = .ok (.istore_n 2, 1) := by decide +kernel
theorem dX2_found_4 : decode cX2_found 4 = .ok (.iload_n 2, 1) := by decide +kernel
theorem dX2_found_5 : decode cX2_found 5 = .ok (.bipush 24, 2) := by decide +kernel
theorem dX2_found_7 : decode cX2_found 7 = .ok (.if_icmp .ge 24, 3) := by decide +kernel
theorem dX2_found_10 : decode cX2_found 10 = .ok (.aload_n 0, 1) := by decide +kernel
theorem dX2_found_11 : decode cX2_found 11 = .ok (.getfield 19, 3) := by decide +kernel
theorem dX2_found_14 : decode cX2_found 14 = .ok (.iload_n 2, 1) := by decide +kernel
theorem dX2_found_15 : decode cX2_found 15 = .ok (.iaload, 1) := by decide +kernel
theorem dX2_found_16 : decode cX2_found 16 = .ok (.sipush 1000, 3) := by decide +kernel
theorem dX2_found_19 : decode cX2_found 19 = .ok (.if_icmp .ge 6, 3) := by decide +kernel
theorem dX2_found_22 : decode cX2_found 22 = .ok (.iinc 1 1, 3) := by decide +kernel
theorem dX2_found_25 : decode cX2_found 25 = .ok (.iinc 2 1, 3) := by decide +kernel
theorem dX2_found_28 : decode cX2_found 28 = .ok (.goto (-24), 3) := by decide +kernel
theorem dX2_found_31 : decode cX2_found 31 = .ok (.iload_n 1, 1) := by decide +kernel
theorem dX2_found_32 : decode cX2_found 32 = .ok (.ireturn, 1) := by decide +kernel
theorem dX2_copyRoot_0 : decode cX2_copyRoot 0 = .ok (.aload_n 0, 1) := by decide +kernel
theorem dX2_copyRoot_1 : decode cX2_copyRoot 1 = .ok (.iload_n 1, 1) := by decide +kernel
theorem dX2_copyRoot_2 : decode cX2_copyRoot 2 = .ok (.invokevirtual 22, 3) := by decide +kernel
theorem dX2_copyRoot_5 : decode cX2_copyRoot 5 = .ok (.ifCond .eq 11, 3) := by decide +kernel
theorem dX2_copyRoot_8 : decode cX2_copyRoot 8 = .ok (.aload_n 0, 1) := by decide +kernel
theorem dX2_copyRoot_9 : decode cX2_copyRoot 9 = .ok (.iload_n 2, 1) := by decide +kernel
theorem dX2_copyRoot_10 : decode cX2_copyRoot 10 = .ok (.invokevirtual 22, 3) := by decide +kernel
theorem dX2_copyRoot_13 : decode cX2_copyRoot 13 = .ok (.ifCond .ne 5, 3) := by decide +kernel
theorem dX2_copyRoot_16 : decode cX2_copyRoot 16 = .ok (.iconst (-1), 1) := by decide +kernel
theorem dX2_copyRoot_17 : decode cX2_copyRoot 17 = .ok (.ireturn, 1) := by decide +kernel
theorem dX2_copyRoot_18 : decode cX2_copyRoot 18 = .ok (.aload_n 0, 1) := by decide +kernel
theorem dX2_copyRoot_19 : decode cX2_copyRoot 19 = .ok (.getfield 7, 3) := by decide +kernel
theorem dX2_copyRoot_22 : decode cX2_copyRoot 22 = .ok (.iload_n 2, 1) := by decide +kernel
theorem dX2_copyRoot_23 : decode cX2_copyRoot 23 = .ok (.aload_n 0, 1) := by decide +kernel
theorem dX2_copyRoot_24 : decode cX2_copyRoot 24 = .ok (.getfield 7, 3) := by decide +kernel
theorem dX2_copyRoot_27 : decode cX2_copyRoot 27 = .ok (.iload_n 1, 1) := by decide +kernel
theorem dX2_copyRoot_28 : decode cX2_copyRoot 28 = .ok (.iaload, 1) := by decide +kernel
theorem dX2_copyRoot_29 : decode cX2_copyRoot 29 = .ok (.iastore, 1) := by decide +kernel
theorem dX2_copyRoot_30 : decode cX2_copyRoot 30 = .ok (.iconst 0, 1) := by decide +kernel
theorem dX2_copyRoot_31 : decode cX2_copyRoot 31 = .ok (.ireturn, 1) := by decide +kernel
theorem dX2_drop_0 : decode cX2_drop 0 = .ok (.aload_n 0, 1) := by decide +kernel
theorem dX2_drop_1 : decode cX2_drop 1 = .ok (.iload_n 1, 1) := by decide +kernel
theorem dX2_drop_2 : decode cX2_drop 2 = .ok (.invokevirtual 22, 3) := by decide +kernel
theorem dX2_drop_5 : decode cX2_drop 5 = .ok (.ifCond .ne 5, 3) := by decide +kernel
theorem dX2_drop_8 : decode cX2_drop 8 = .ok (.iconst (-1), 1) := by decide +kernel
theorem dX2_drop_9 : decode cX2_drop 9 = .ok (.ireturn, 1) := by decide +kernel
theorem dX2_drop_10 : decode cX2_drop 10 = .ok (.aload_n 0, 1) := by decide +kernel
theorem dX2_drop_11 : decode cX2_drop 11 = .ok (.getfield 7, 3) := by decide +kernel
theorem dX2_drop_14 : decode cX2_drop 14 = .ok (.iload_n 1, 1) := by decide +kernel
theorem dX2_drop_15 : decode cX2_drop 15 = .ok (.iconst (-1), 1) := by decide +kernel
theorem dX2_drop_16 : decode cX2_drop 16 = .ok (.iastore, 1) := by decide +kernel
theorem dX2_drop_17 : decode cX2_drop 17 = .ok (.iconst 0, 1) := by decide +kernel
theorem dX2_drop_18 : decode cX2_drop 18 = .ok (.ireturn, 1) := by decide +kernel
theorem dX2_load_0 : decode cX2_load 0 = .ok (.aload_n 0, 1) := by decide +kernel
theorem dX2_load_1 : decode cX2_load 1 = .ok (.iload_n 1, 1) := by decide +kernel
theorem dX2_load_2 : decode cX2_load 2 = .ok (.iload_n 2, 1) := by decide +kernel
theorem dX2_load_3 : decode cX2_load 3 = .ok (.iload_n 3, 1) := by decide +kernel
theorem dX2_load_4 : decode cX2_load 4 = .ok (.invokevirtual 30, 3) := by decide +kernel
theorem dX2_load_7 : decode cX2_load 7 = .ok (.istore 4, 2) := by decide +kernel
theorem dX2_load_9 : decode cX2_load 9 = .ok (.iload 4, 2) := by decide +kernel
theorem dX2_load_11 : decode cX2_load 11 = .ok (.ifCond .ge 6, 3) := by decide +kernel
theorem dX2_load_14 : decode cX2_load 14 = .ok (.iload 4, 2) := by decide +kernel
theorem dX2_load_16 : decode cX2_load 16 = .ok (.ireturn, 1) := by decide +kernel
theorem dX2_load_17 : decode cX2_load 17 = .ok (.aload_n 0, 1) := by decide +kernel
theorem dX2_load_18 : decode cX2_load 18 = .ok (.getfield 7, 3) := by decide +kernel
theorem dX2_load_21 : decode cX2_load 21 = .ok (.iload_n 3, 1) := by decide +kernel
theorem dX2_load_22 : decode cX2_load 22 = .ok (.aload_n 0, 1) := by decide +kernel
theorem dX2_load_23 : decode cX2_load 23 = .ok (.getfield 13, 3) := by decide +kernel
theorem dX2_load_26 : decode cX2_load 26 = .ok (.aload_n 0, 1) := by decide +kernel
theorem dX2_load_27 : decode cX2_load 27 = .ok (.getfield 7, 3) := by decide +kernel
theorem dX2_load_30 : decode cX2_load 30 = .ok (.iload_n 1, 1) := by decide +kernel
theorem dX2_load_31 : decode cX2_load 31 = .ok (.iaload, 1) := by decide +kernel
theorem dX2_load_32 : decode cX2_load 32 = .ok (.iconst 3, 1) := by decide +kernel
theorem dX2_load_33 : decode cX2_load 33 = .ok (.imul, 1) := by decide +kernel
theorem dX2_load_34 : decode cX2_load 34 = .ok (.iload_n 2, 1) := by decide +kernel
theorem dX2_load_35 : decode cX2_load 35 = .ok (.iadd, 1) := by decide +kernel
theorem dX2_load_36 : decode cX2_load 36 = .ok (.iaload, 1) := by decide +kernel
theorem dX2_load_37 : decode cX2_load 37 = .ok (.iastore, 1) := by decide +kernel
theorem dX2_load_38 : decode cX2_load 38 = .ok (.iconst 0, 1) := by decide +kernel
theorem dX2_load_39 : decode cX2_load 39 = .ok (.ireturn, 1) := by decide +kernel
theorem dX2_refusal_0 : decode cX2_refusal 0 = .ok (.aload_n 0, 1) := by decide +kernel
theorem dX2_refusal_1 : decode cX2_refusal 1 = .ok (.iload_n 1, 1) := by decide +kernel
theorem dX2_refusal_2 : decode cX2_refusal 2 = .ok (.invokevirtual 22, 3) := by decide +kernel
theorem dX2_refusal_5 : decode cX2_refusal 5 = .ok (.ifCond .eq 11, 3) := by decide +kernel
theorem dX2_refusal_8 : decode cX2_refusal 8 = .ok (.aload_n 0, 1) := by decide +kernel
theorem dX2_refusal_9 : decode cX2_refusal 9 = .ok (.iload_n 3, 1) := by decide +kernel
theorem dX2_refusal_10 : decode cX2_refusal 10 = .ok (.invokevirtual 22, 3) := by decide +kernel
theorem dX2_refusal_13 : decode cX2_refusal 13 = .ok (.ifCond .ne 5, 3) := by decide +kernel
theorem dX2_refusal_16 : decode cX2_refusal 16 = .ok (.iconst (-1), 1) := by decide +kernel
theorem dX2_refusal_17 : decode cX2_refusal 17 = .ok (.ireturn, 1) := by decide +kernel
theorem dX2_refusal_18 : decode cX2_refusal 18 = .ok (.iload_n 2, 1) := by decide +kernel
theorem dX2_refusal_19 : decode cX2_refusal 19 = .ok (.ifCond .lt 8, 3) := by decide +kernel
theorem dX2_refusal_22 : decode cX2_refusal 22 = .ok (.iload_n 2, 1) := by decide +kernel
theorem dX2_refusal_23 : decode cX2_refusal 23 = .ok (.iconst 2, 1) := by decide +kernel
theorem dX2_refusal_24 : decode cX2_refusal 24 = .ok (.if_icmp .le 6, 3) := by decide +kernel
theorem dX2_refusal_27 : decode cX2_refusal 27 = .ok (.bipush (-2), 2) := by decide +kernel
theorem dX2_refusal_29 : decode cX2_refusal 29 = .ok (.ireturn, 1) := by decide +kernel
theorem dX2_refusal_30 : decode cX2_refusal 30 = .ok (.aload_n 0, 1) := by decide +kernel
theorem dX2_refusal_31 : decode cX2_refusal 31 = .ok (.getfield 7, 3) := by decide +kernel
theorem dX2_refusal_34 : decode cX2_refusal 34 = .ok (.iload_n 1, 1) := by decide +kernel
theorem dX2_refusal_35 : decode cX2_refusal 35 = .ok (.iaload, 1) := by decide +kernel
theorem dX2_refusal_36 : decode cX2_refusal 36 = .ok (.ifCond .ge 8, 3) := by decide +kernel
theorem dX2_refusal_39 : decode cX2_refusal 39 = .ok (.bipush (-3), 2) := by decide +kernel
theorem dX2_refusal_41 : decode cX2_refusal 41 = .ok (.goto 4, 3) := by decide +kernel
theorem dX2_refusal_44 : decode cX2_refusal 44 = .ok (.iconst 0, 1) := by decide +kernel
theorem dX2_refusal_45 : decode cX2_refusal 45 = .ok (.ireturn, 1) := by decide +kernel
theorem dX2_store_0 : decode cX2_store 0 = .ok (.aload_n 0, 1) := by decide +kernel
theorem dX2_store_1 : decode cX2_store 1 = .ok (.iload_n 1, 1) := by decide +kernel
theorem dX2_store_2 : decode cX2_store 2 = .ok (.iload_n 2, 1) := by decide +kernel
theorem dX2_store_3 : decode cX2_store 3 = .ok (.iload_n 3, 1) := by decide +kernel
theorem dX2_store_4 : decode cX2_store 4 = .ok (.invokevirtual 30, 3) := by decide +kernel
theorem dX2_store_7 : decode cX2_store 7 = .ok (.istore 4, 2) := by decide +kernel
theorem dX2_store_9 : decode cX2_store 9 = .ok (.iload 4, 2) := by decide +kernel
theorem dX2_store_11 : decode cX2_store 11 = .ok (.ifCond .ge 6, 3) := by decide +kernel
theorem dX2_store_14 : decode cX2_store 14 = .ok (.iload 4, 2) := by decide +kernel
theorem dX2_store_16 : decode cX2_store 16 = .ok (.ireturn, 1) := by decide +kernel
theorem dX2_store_17 : decode cX2_store 17 = .ok (.aload_n 0, 1) := by decide +kernel
theorem dX2_store_18 : decode cX2_store 18 = .ok (.getfield 13, 3) := by decide +kernel
theorem dX2_store_21 : decode cX2_store 21 = .ok (.aload_n 0, 1) := by decide +kernel
theorem dX2_store_22 : decode cX2_store 22 = .ok (.getfield 7, 3) := by decide +kernel
theorem dX2_store_25 : decode cX2_store 25 = .ok (.iload_n 1, 1) := by decide +kernel
theorem dX2_store_26 : decode cX2_store 26 = .ok (.iaload, 1) := by decide +kernel
theorem dX2_store_27 : decode cX2_store 27 = .ok (.iconst 3, 1) := by decide +kernel
theorem dX2_store_28 : decode cX2_store 28 = .ok (.imul, 1) := by decide +kernel
theorem dX2_store_29 : decode cX2_store 29 = .ok (.iload_n 2, 1) := by decide +kernel
theorem dX2_store_30 : decode cX2_store 30 = .ok (.iadd, 1) := by decide +kernel
theorem dX2_store_31 : decode cX2_store 31 = .ok (.aload_n 0, 1) := by decide +kernel
theorem dX2_store_32 : decode cX2_store 32 = .ok (.getfield 7, 3) := by decide +kernel
theorem dX2_store_35 : decode cX2_store 35 = .ok (.iload_n 3, 1) := by decide +kernel
theorem dX2_store_36 : decode cX2_store 36 = .ok (.iaload, 1) := by decide +kernel
theorem dX2_store_37 : decode cX2_store 37 = .ok (.iastore, 1) := by decide +kernel
theorem dX2_store_38 : decode cX2_store 38 = .ok (.iconst 0, 1) := by decide +kernel
theorem dX2_store_39 : decode cX2_store 39 = .ok (.ireturn, 1) := by decide +kernel
theorem dX2_setPayload_0 : decode cX2_setPayload 0 = .ok (.aload_n 0, 1) := by decide +kernel
theorem dX2_setPayload_1 : decode cX2_setPayload 1 = .ok (.iload_n 1, 1) := by decide +kernel
theorem dX2_setPayload_2 : decode cX2_setPayload 2 = .ok (.iconst 0, 1) := by decide +kernel
theorem dX2_setPayload_3 : decode cX2_setPayload 3 = .ok (.iload_n 1, 1) := by decide +kernel
theorem dX2_setPayload_4 : decode cX2_setPayload 4 = .ok (.invokevirtual 30, 3) := by decide +kernel
theorem dX2_setPayload_7 : decode cX2_setPayload 7 = .ok (.istore_n 3, 1) := by decide +kernel
theorem dX2_setPayload_8 : decode cX2_setPayload 8 = .ok (.iload_n 3, 1) := by decide +kernel
theorem dX2_setPayload_9 : decode cX2_setPayload 9 = .ok (.ifCond .ge 5, 3) := by decide +kernel
theorem dX2_setPayload_12 : decode cX2_setPayload 12 = .ok (.iload_n 3, 1) := by decide +kernel
theorem dX2_setPayload_13 : decode cX2_setPayload 13 = .ok (.ireturn, 1) := by decide +kernel
theorem dX2_setPayload_14 : decode cX2_setPayload 14 = .ok (.aload_n 0, 1) := by decide +kernel
theorem dX2_setPayload_15 : decode cX2_setPayload 15 = .ok (.getfield 16, 3) := by decide +kernel
theorem dX2_setPayload_18 : decode cX2_setPayload 18 = .ok (.aload_n 0, 1) := by decide +kernel
theorem dX2_setPayload_19 : decode cX2_setPayload 19 = .ok (.getfield 7, 3) := by decide +kernel
theorem dX2_setPayload_22 : decode cX2_setPayload 22 = .ok (.iload_n 1, 1) := by decide +kernel
theorem dX2_setPayload_23 : decode cX2_setPayload 23 = .ok (.iaload, 1) := by decide +kernel
theorem dX2_setPayload_24 : decode cX2_setPayload 24 = .ok (.iload_n 2, 1) := by decide +kernel
theorem dX2_setPayload_25 : decode cX2_setPayload 25 = .ok (.iastore, 1) := by decide +kernel
theorem dX2_setPayload_26 : decode cX2_setPayload 26 = .ok (.iconst 0, 1) := by decide +kernel
theorem dX2_setPayload_27 : decode cX2_setPayload 27 = .ok (.ireturn, 1) := by decide +kernel
theorem dX2_collect_0 : decode cX2_collect 0 = .ok (.return_, 1) := by decide +kernel
theorem dX2_payload_0 : decode cX2_payload 0 = .ok (.aload_n 0, 1) := by decide +kernel
theorem dX2_payload_1 : decode cX2_payload 1 = .ok (.iload_n 1, 1) := by decide +kernel
theorem dX2_payload_2 : decode cX2_payload 2 = .ok (.invokevirtual 34, 3) := by decide +kernel
theorem dX2_payload_5 : decode cX2_payload 5 = .ok (.istore_n 2, 1) := by decide +kernel
theorem dX2_payload_6 : decode cX2_payload 6 = .ok (.iload_n 2, 1) := by decide +kernel
theorem dX2_payload_7 : decode cX2_payload 7 = .ok (.ifCond .ge 7, 3) := by decide +kernel
theorem dX2_payload_10 : decode cX2_payload 10 = .ok (.iconst 0, 1) := by decide +kernel
theorem dX2_payload_11 : decode cX2_payload 11 = .ok (.goto 9, 3) := by decide +kernel
theorem dX2_payload_14 : decode cX2_payload 14 = .ok (.aload_n 0, 1) := by decide +kernel
theorem dX2_payload_15 : decode cX2_payload 15 = .ok (.getfield 16, 3) := by decide +kernel
theorem dX2_payload_18 : decode cX2_payload 18 = .ok (.iload_n 2, 1) := by decide +kernel
theorem dX2_payload_19 : decode cX2_payload 19 = .ok (.iaload, 1) := by decide +kernel
theorem dX2_payload_20 : decode cX2_payload 20 = .ok (.ireturn, 1) := by decide +kernel
theorem dX2_objectOf_0 : decode cX2_objectOf 0 = .ok (.aload_n 0, 1) := by decide +kernel
theorem dX2_objectOf_1 : decode cX2_objectOf 1 = .ok (.iload_n 1, 1) := by decide +kernel
theorem dX2_objectOf_2 : decode cX2_objectOf 2 = .ok (.invokevirtual 22, 3) := by decide +kernel
theorem dX2_objectOf_5 : decode cX2_objectOf 5 = .ok (.ifCond .eq 12, 3) := by decide +kernel
theorem dX2_objectOf_8 : decode cX2_objectOf 8 = .ok (.aload_n 0, 1) := by decide +kernel
theorem dX2_objectOf_9 : decode cX2_objectOf 9 = .ok (.getfield 7, 3) := by decide +kernel
theorem dX2_objectOf_12 : decode cX2_objectOf 12 = .ok (.iload_n 1, 1) := by decide +kernel
theorem dX2_objectOf_13 : decode cX2_objectOf 13 = .ok (.iaload, 1) := by decide +kernel
theorem dX2_objectOf_14 : decode cX2_objectOf 14 = .ok (.goto 4, 3) := by decide +kernel
theorem dX2_objectOf_17 : decode cX2_objectOf 17 = .ok (.iconst (-1), 1) := by decide +kernel
theorem dX2_objectOf_18 : decode cX2_objectOf 18 = .ok (.ireturn, 1) := by decide +kernel
theorem dX2_held_0 : decode cX2_held 0 = .ok (.aload_n 0, 1) := by decide +kernel
theorem dX2_held_1 : decode cX2_held 1 = .ok (.iload_n 1, 1) := by decide +kernel
theorem dX2_held_2 : decode cX2_held 2 = .ok (.invokevirtual 34, 3) := by decide +kernel
theorem dX2_held_5 : decode cX2_held 5 = .ok (.ifCond .lt 7, 3) := by decide +kernel
theorem dX2_held_8 : decode cX2_held 8 = .ok (.iconst 1, 1) := by decide +kernel
theorem dX2_held_9 : decode cX2_held 9 = .ok (.goto 4, 3) := by decide +kernel
theorem dX2_held_12 : decode cX2_held 12 = .ok (.iconst 0, 1) := by decide +kernel
theorem dX2_held_13 : decode cX2_held 13 = .ok (.ireturn, 1) := by decide +kernel
theorem dX2_same_0 : decode cX2_same 0 = .ok (.aload_n 0, 1) := by decide +kernel
theorem dX2_same_1 : decode cX2_same 1 = .ok (.iload_n 1, 1) := by decide +kernel
theorem dX2_same_2 : decode cX2_same 2 = .ok (.invokevirtual 38, 3) := by decide +kernel
theorem dX2_same_5 : decode cX2_same 5 = .ok (.ifCond .eq 30, 3) := by decide +kernel
theorem dX2_same_8 : decode cX2_same 8 = .ok (.aload_n 0, 1) := by decide +kernel
theorem dX2_same_9 : decode cX2_same 9 = .ok (.iload_n 2, 1) := by decide +kernel
theorem dX2_same_10 : decode cX2_same 10 = .ok (.invokevirtual 38, 3) := by decide +kernel
theorem dX2_same_13 : decode cX2_same 13 = .ok (.ifCond .eq 22, 3) := by decide +kernel
theorem dX2_same_16 : decode cX2_same 16 = .ok (.aload_n 0, 1) := by decide +kernel
theorem dX2_same_17 : decode cX2_same 17 = .ok (.getfield 7, 3) := by decide +kernel
theorem dX2_same_20 : decode cX2_same 20 = .ok (.iload_n 1, 1) := by decide +kernel
theorem dX2_same_21 : decode cX2_same 21 = .ok (.iaload, 1) := by decide +kernel
theorem dX2_same_22 : decode cX2_same 22 = .ok (.aload_n 0, 1) := by decide +kernel
theorem dX2_same_23 : decode cX2_same 23 = .ok (.getfield 7, 3) := by decide +kernel
theorem dX2_same_26 : decode cX2_same 26 = .ok (.iload_n 2, 1) := by decide +kernel
theorem dX2_same_27 : decode cX2_same 27 = .ok (.iaload, 1) := by decide +kernel
theorem dX2_same_28 : decode cX2_same 28 = .ok (.if_icmp .ne 7, 3) := by decide +kernel
theorem dX2_same_31 : decode cX2_same 31 = .ok (.iconst 1, 1) := by decide +kernel
theorem dX2_same_32 : decode cX2_same 32 = .ok (.goto 4, 3) := by decide +kernel
theorem dX2_same_35 : decode cX2_same 35 = .ok (.iconst 0, 1) := by decide +kernel
theorem dX2_same_36 : decode cX2_same 36 = .ok (.ireturn, 1) := by decide +kernel
theorem dX2_reachableFrom_0 : decode cX2_reachableFrom 0 = .ok (.aload_n 0, 1) := by decide +kernel
theorem dX2_reachableFrom_1 : decode cX2_reachableFrom 1 = .ok (.iload_n 1, 1) := by decide +kernel
theorem dX2_reachableFrom_2 : decode cX2_reachableFrom 2 = .ok (.invokevirtual 38, 3) := by decide +kernel
theorem dX2_reachableFrom_5 : decode cX2_reachableFrom 5 = .ok (.ifCond .ne 5, 3) := by decide +kernel
theorem dX2_reachableFrom_8 : decode cX2_reachableFrom 8 = .ok (.iconst 0, 1) := by decide +kernel
theorem dX2_reachableFrom_9 : decode cX2_reachableFrom 9 = .ok (.ireturn, 1) := by decide +kernel
theorem dX2_reachableFrom_10 : decode cX2_reachableFrom 10 = .ok (.aload_n 0, 1) := by decide +kernel
theorem dX2_reachableFrom_11 : decode cX2_reachableFrom 11 = .ok (.iload_n 1, 1) := by decide +kernel
theorem dX2_reachableFrom_12 : decode cX2_reachableFrom 12 = .ok (.invokevirtual 41, 3) := by decide +kernel
theorem dX2_reachableFrom_15 : decode cX2_reachableFrom 15 = .ok (.aload_n 0, 1) := by decide +kernel
theorem dX2_reachableFrom_16 : decode cX2_reachableFrom 16 = .ok (.invokevirtual 45, 3) := by decide +kernel
theorem dX2_reachableFrom_19 : decode cX2_reachableFrom 19 = .ok (.ireturn, 1) := by decide +kernel
theorem dX2_distance_0 : decode cX2_distance 0 = .ok (.aload_n 0, 1) := by decide +kernel
theorem dX2_distance_1 : decode cX2_distance 1 = .ok (.iload_n 1, 1) := by decide +kernel
theorem dX2_distance_2 : decode cX2_distance 2 = .ok (.invokevirtual 38, 3) := by decide +kernel
theorem dX2_distance_5 : decode cX2_distance 5 = .ok (.ifCond .eq 11, 3) := by decide +kernel
theorem dX2_distance_8 : decode cX2_distance 8 = .ok (.aload_n 0, 1) := by decide +kernel
theorem dX2_distance_9 : decode cX2_distance 9 = .ok (.iload_n 2, 1) := by decide +kernel
theorem dX2_distance_10 : decode cX2_distance 10 = .ok (.invokevirtual 38, 3) := by decide +kernel
theorem dX2_distance_13 : decode cX2_distance 13 = .ok (.ifCond .ne 6, 3) := by decide +kernel
theorem dX2_distance_16 : decode cX2_distance 16 = .ok (.bipush (-3), 2) := by decide +kernel
theorem dX2_distance_18 : decode cX2_distance 18 = .ok (.ireturn, 1) := by decide +kernel
theorem dX2_distance_19 : decode cX2_distance 19 = .ok (.aload_n 0, 1) := by decide +kernel
theorem dX2_distance_20 : decode cX2_distance 20 = .ok (.iload_n 1, 1) := by decide +kernel
theorem dX2_distance_21 : decode cX2_distance 21 = .ok (.invokevirtual 41, 3) := by decide +kernel
theorem dX2_distance_24 : decode cX2_distance 24 = .ok (.aload_n 0, 1) := by decide +kernel
theorem dX2_distance_25 : decode cX2_distance 25 = .ok (.getfield 19, 3) := by decide +kernel
theorem dX2_distance_28 : decode cX2_distance 28 = .ok (.aload_n 0, 1) := by decide +kernel
theorem dX2_distance_29 : decode cX2_distance 29 = .ok (.getfield 7, 3) := by decide +kernel
theorem dX2_distance_32 : decode cX2_distance 32 = .ok (.iload_n 2, 1) := by decide +kernel
theorem dX2_distance_33 : decode cX2_distance 33 = .ok (.iaload, 1) := by decide +kernel
theorem dX2_distance_34 : decode cX2_distance 34 = .ok (.iaload, 1) := by decide +kernel
theorem dX2_distance_35 : decode cX2_distance 35 = .ok (.sipush 1000, 3) := by decide +kernel
theorem dX2_distance_38 : decode cX2_distance 38 = .ok (.if_icmp .ge 17, 3) := by decide +kernel
theorem dX2_distance_41 : decode cX2_distance 41 = .ok (.aload_n 0, 1) := by decide +kernel
theorem dX2_distance_42 : decode cX2_distance 42 = .ok (.getfield 19, 3) := by decide +kernel
theorem dX2_distance_45 : decode cX2_distance 45 = .ok (.aload_n 0, 1) := by decide +kernel
theorem dX2_distance_46 : decode cX2_distance 46 = .ok (.getfield 7, 3) := by decide +kernel
theorem dX2_distance_49 : decode cX2_distance 49 = .ok (.iload_n 2, 1) := by decide +kernel
theorem dX2_distance_50 : decode cX2_distance 50 = .ok (.iaload, 1) := by decide +kernel
theorem dX2_distance_51 : decode cX2_distance 51 = .ok (.iaload, 1) := by decide +kernel
theorem dX2_distance_52 : decode cX2_distance 52 = .ok (.goto 5, 3) := by decide +kernel
theorem dX2_distance_55 : decode cX2_distance 55 = .ok (.bipush (-3), 2) := by decide +kernel
theorem dX2_distance_57 : decode cX2_distance 57 = .ok (.ireturn, 1) := by decide +kernel
theorem dX2_sum_0 : decode cX2_sum 0 = .ok (.aload_n 0, 1) := by decide +kernel
theorem dX2_sum_1 : decode cX2_sum 1 = .ok (.iconst (-1), 1) := by decide +kernel
theorem dX2_sum_2 : decode cX2_sum 2 = .ok (.invokevirtual 41, 3) := by decide +kernel
theorem dX2_sum_5 : decode cX2_sum 5 = .ok (.iconst 0, 1) := by decide +kernel
theorem dX2_sum_6 : decode cX2_sum 6 = .ok (.istore_n 1, 1) := by decide +kernel
theorem dX2_sum_7 : decode cX2_sum 7 = .ok (.iconst 0, 1) := by decide +kernel
theorem dX2_sum_8 : decode cX2_sum 8 = .ok (.istore_n 2, 1) := by decide +kernel
theorem dX2_sum_9 : decode cX2_sum 9 = .ok (.iload_n 2, 1) := by decide +kernel
theorem dX2_sum_10 : decode cX2_sum 10 = .ok (.bipush 24, 2) := by decide +kernel
theorem dX2_sum_12 : decode cX2_sum 12 = .ok (.if_icmp .ge 30, 3) := by decide +kernel
theorem dX2_sum_15 : decode cX2_sum 15 = .ok (.aload_n 0, 1) := by decide +kernel
theorem dX2_sum_16 : decode cX2_sum 16 = .ok (.getfield 19, 3) := by decide +kernel
theorem dX2_sum_19 : decode cX2_sum 19 = .ok (.iload_n 2, 1) := by decide +kernel
theorem dX2_sum_20 : decode cX2_sum 20 = .ok (.iaload, 1) := by decide +kernel
theorem dX2_sum_21 : decode cX2_sum 21 = .ok (.sipush 1000, 3) := by decide +kernel
theorem dX2_sum_24 : decode cX2_sum 24 = .ok (.if_icmp .ge 12, 3) := by decide +kernel
theorem dX2_sum_27 : decode cX2_sum 27 = .ok (.iload_n 1, 1) := by decide +kernel
theorem dX2_sum_28 : decode cX2_sum 28 = .ok (.aload_n 0, 1) := by decide +kernel
theorem dX2_sum_29 : decode cX2_sum 29 = .ok (.getfield 16, 3) := by decide +kernel
theorem dX2_sum_32 : decode cX2_sum 32 = .ok (.iload_n 2, 1) := by decide +kernel
theorem dX2_sum_33 : decode cX2_sum 33 = .ok (.iaload, 1) := by decide +kernel
theorem dX2_sum_34 : decode cX2_sum 34 = .ok (.iadd, 1) := by decide +kernel
theorem dX2_sum_35 : decode cX2_sum 35 = .ok (.istore_n 1, 1) := by decide +kernel
theorem dX2_sum_36 : decode cX2_sum 36 = .ok (.iinc 2 1, 3) := by decide +kernel
theorem dX2_sum_39 : decode cX2_sum 39 = .ok (.goto (-30), 3) := by decide +kernel
theorem dX2_sum_42 : decode cX2_sum 42 = .ok (.iload_n 1, 1) := by decide +kernel
theorem dX2_sum_43 : decode cX2_sum 43 = .ok (.ireturn, 1) := by decide +kernel
theorem dX0_cell_0 : decode cX0_cell 0 = .ok (.iload_n 1, 1) := by decide +kernel
theorem dX0_cell_1 : decode cX0_cell 1 = .ok (.aload_n 0, 1) := by decide +kernel
theorem dX0_cell_2 : decode cX0_cell 2 = .ok (.arraylength, 1) := by decide +kernel
theorem dX0_cell_3 : decode cX0_cell 3 = .ok (.if_icmp .ge 9, 3) := by decide +kernel
theorem dX0_cell_6 : decode cX0_cell 6 = .ok (.aload_n 0, 1) := by decide +kernel
theorem dX0_cell_7 : decode cX0_cell 7 = .ok (.iload_n 1, 1) := by decide +kernel
theorem dX0_cell_8 : decode cX0_cell 8 = .ok (.iaload, 1) := by decide +kernel
theorem dX0_cell_9 : decode cX0_cell 9 = .ok (.goto 4, 3) := by decide +kernel
theorem dX0_cell_12 : decode cX0_cell 12 = .ok (.iconst 0, 1) := by decide +kernel
theorem dX0_cell_13 : decode cX0_cell 13 = .ok (.ireturn, 1) := by decide +kernel
theorem dJ0_init_0 : decode cJ0_init 0 = .ok (.return_, 1) := by decide +kernel
end
section
set_option maxRecDepth 100000
theorem dL_law_0 : decode cL_law 0 = .ok (.new 7, 3) := by decide +kernel
theorem dL_law_3 : decode cL_law 3 = .ok (.dup, 1) := by decide +kernel
theorem dL_law_4 : decode cL_law 4 = .ok (.aload_n 0, 1) := by decide +kernel
theorem dL_law_5 : decode cL_law 5 = .ok (.iconst 0, 1) := by decide +kernel
theorem dL_law_6 : decode cL_law 6 = .ok (.invokestatic 9, 3) := by decide +kernel
theorem dL_law_9 : decode cL_law 9 = .ok (.invokespecial 15, 3) := by decide +kernel
theorem dL_law_12 : decode cL_law 12 = .ok (.astore_n 1, 1) := by decide +kernel
theorem dL_law_13 : decode cL_law 13 = .ok (.new 18, 3) := by decide +kernel
theorem dL_law_16 : decode cL_law 16 = .ok (.dup, 1) := by decide +kernel
theorem dL_law_17 : decode cL_law 17 = .ok (.aload_n 0, 1) := by decide +kernel
theorem dL_law_18 : decode cL_law 18 = .ok (.iconst 0, 1) := by decide +kernel
theorem dL_law_19 : decode cL_law 19 = .ok (.invokestatic 9, 3) := by decide +kernel
theorem dL_law_22 : decode cL_law 22 = .ok (.invokespecial 20, 3) := by decide +kernel
theorem dL_law_25 : decode cL_law 25 = .ok (.astore_n 2, 1) := by decide +kernel
theorem dL_law_26 : decode cL_law 26 = .ok (.iconst 1, 1) := by decide +kernel
theorem dL_law_27 : decode cL_law 27 = .ok (.istore_n 3, 1) := by decide +kernel
theorem dL_law_28 : decode cL_law 28 = .ok (.iload_n 3, 1) := by decide +kernel
theorem dL_law_29 : decode cL_law 29 = .ok (.aload_n 0, 1) := by decide +kernel
theorem dL_law_30 : decode cL_law 30 = .ok (.arraylength, 1) := by decide +kernel
theorem dL_law_31 : decode cL_law 31 = .ok (.iconst 4, 1) := by decide +kernel
theorem dL_law_32 : decode cL_law 32 = .ok (.isub, 1) := by decide +kernel
theorem dL_law_33 : decode cL_law 33 = .ok (.if_icmp .gt 465, 3) := by decide +kernel
theorem dL_law_36 : decode cL_law 36 = .ok (.aload_n 0, 1) := by decide +kernel
theorem dL_law_37 : decode cL_law 37 = .ok (.iload_n 3, 1) := by decide +kernel
theorem dL_law_38 : decode cL_law 38 = .ok (.iaload, 1) := by decide +kernel
theorem dL_law_39 : decode cL_law 39 = .ok (.bipush 15, 2) := by decide +kernel
theorem dL_law_41 : decode cL_law 41 = .ok (.iand, 1) := by decide +kernel
theorem dL_law_42 : decode cL_law 42 = .ok (.tableswitch 450 0 13 #[70, 103, 136, 159, 202, 245, 278, 289, 312, 335, 368, 381, 404, 437], 70) := by decide +kernel
theorem dL_law_112 : decode cL_law 112 = .ok (.aload_n 1, 1) := by decide +kernel
theorem dL_law_113 : decode cL_law 113 = .ok (.aload_n 0, 1) := by decide +kernel
theorem dL_law_114 : decode cL_law 114 = .ok (.iload_n 3, 1) := by decide +kernel
theorem dL_law_115 : decode cL_law 115 = .ok (.iconst 1, 1) := by decide +kernel
theorem dL_law_116 : decode cL_law 116 = .ok (.iadd, 1) := by decide +kernel
theorem dL_law_117 : decode cL_law 117 = .ok (.iaload, 1) := by decide +kernel
theorem dL_law_118 : decode cL_law 118 = .ok (.aload_n 0, 1) := by decide +kernel
theorem dL_law_119 : decode cL_law 119 = .ok (.iload_n 3, 1) := by decide +kernel
theorem dL_law_120 : decode cL_law 120 = .ok (.iconst 2, 1) := by decide +kernel
theorem dL_law_121 : decode cL_law 121 = .ok (.iadd, 1) := by decide +kernel
theorem dL_law_122 : decode cL_law 122 = .ok (.iaload, 1) := by decide +kernel
theorem dL_law_123 : decode cL_law 123 = .ok (.invokevirtual 21, 3) := by decide +kernel
theorem dL_law_126 : decode cL_law 126 = .ok (.aload_n 2, 1) := by decide +kernel
theorem dL_law_127 : decode cL_law 127 = .ok (.aload_n 0, 1) := by decide +kernel
theorem dL_law_128 : decode cL_law 128 = .ok (.iload_n 3, 1) := by decide +kernel
theorem dL_law_129 : decode cL_law 129 = .ok (.iconst 1, 1) := by decide +kernel
theorem dL_law_130 : decode cL_law 130 = .ok (.iadd, 1) := by decide +kernel
theorem dL_law_131 : decode cL_law 131 = .ok (.iaload, 1) := by decide +kernel
theorem dL_law_132 : decode cL_law 132 = .ok (.aload_n 0, 1) := by decide +kernel
theorem dL_law_133 : decode cL_law 133 = .ok (.iload_n 3, 1) := by decide +kernel
theorem dL_law_134 : decode cL_law 134 = .ok (.iconst 2, 1) := by decide +kernel
theorem dL_law_135 : decode cL_law 135 = .ok (.iadd, 1) := by decide +kernel
theorem dL_law_136 : decode cL_law 136 = .ok (.iaload, 1) := by decide +kernel
theorem dL_law_137 : decode cL_law 137 = .ok (.invokevirtual 25, 3) := by decide +kernel
theorem dL_law_140 : decode cL_law 140 = .ok (.if_icmp .eq 352, 3) := by decide +kernel
theorem dL_law_143 : decode cL_law 143 = .ok (.iconst 0, 1) := by decide +kernel
theorem dL_law_144 : decode cL_law 144 = .ok (.ireturn, 1) := by decide +kernel
theorem dL_law_145 : decode cL_law 145 = .ok (.aload_n 1, 1) := by decide +kernel
theorem dL_law_146 : decode cL_law 146 = .ok (.aload_n 0, 1) := by decide +kernel
theorem dL_law_147 : decode cL_law 147 = .ok (.iload_n 3, 1) := by decide +kernel
theorem dL_law_148 : decode cL_law 148 = .ok (.iconst 1, 1) := by decide +kernel
theorem dL_law_149 : decode cL_law 149 = .ok (.iadd, 1) := by decide +kernel
theorem dL_law_150 : decode cL_law 150 = .ok (.iaload, 1) := by decide +kernel
theorem dL_law_151 : decode cL_law 151 = .ok (.aload_n 0, 1) := by decide +kernel
theorem dL_law_152 : decode cL_law 152 = .ok (.iload_n 3, 1) := by decide +kernel
theorem dL_law_153 : decode cL_law 153 = .ok (.iconst 2, 1) := by decide +kernel
theorem dL_law_154 : decode cL_law 154 = .ok (.iadd, 1) := by decide +kernel
theorem dL_law_155 : decode cL_law 155 = .ok (.iaload, 1) := by decide +kernel
theorem dL_law_156 : decode cL_law 156 = .ok (.invokevirtual 26, 3) := by decide +kernel
theorem dL_law_159 : decode cL_law 159 = .ok (.aload_n 2, 1) := by decide +kernel
theorem dL_law_160 : decode cL_law 160 = .ok (.aload_n 0, 1) := by decide +kernel
theorem dL_law_161 : decode cL_law 161 = .ok (.iload_n 3, 1) := by decide +kernel
theorem dL_law_162 : decode cL_law 162 = .ok (.iconst 1, 1) := by decide +kernel
theorem dL_law_163 : decode cL_law 163 = .ok (.iadd, 1) := by decide +kernel
theorem dL_law_164 : decode cL_law 164 = .ok (.iaload, 1) := by decide +kernel
theorem dL_law_165 : decode cL_law 165 = .ok (.aload_n 0, 1) := by decide +kernel
theorem dL_law_166 : decode cL_law 166 = .ok (.iload_n 3, 1) := by decide +kernel
theorem dL_law_167 : decode cL_law 167 = .ok (.iconst 2, 1) := by decide +kernel
theorem dL_law_168 : decode cL_law 168 = .ok (.iadd, 1) := by decide +kernel
theorem dL_law_169 : decode cL_law 169 = .ok (.iaload, 1) := by decide +kernel
theorem dL_law_170 : decode cL_law 170 = .ok (.invokevirtual 29, 3) := by decide +kernel
theorem dL_law_173 : decode cL_law 173 = .ok (.if_icmp .eq 319, 3) := by decide +kernel
theorem dL_law_176 : decode cL_law 176 = .ok (.iconst 0, 1) := by decide +kernel
theorem dL_law_177 : decode cL_law 177 = .ok (.ireturn, 1) := by decide +kernel
theorem dL_law_178 : decode cL_law 178 = .ok (.aload_n 1, 1) := by decide +kernel
theorem dL_law_179 : decode cL_law 179 = .ok (.aload_n 0, 1) := by decide +kernel
theorem dL_law_180 : decode cL_law 180 = .ok (.iload_n 3, 1) := by decide +kernel
theorem dL_law_181 : decode cL_law 181 = .ok (.iconst 1, 1) := by decide +kernel
theorem dL_law_182 : decode cL_law 182 = .ok (.iadd, 1) := by decide +kernel
theorem dL_law_183 : decode cL_law 183 = .ok (.iaload, 1) := by decide +kernel
theorem dL_law_184 : decode cL_law 184 = .ok (.invokevirtual 30, 3) := by decide +kernel
theorem dL_law_187 : decode cL_law 187 = .ok (.aload_n 2, 1) := by decide +kernel
theorem dL_law_188 : decode cL_law 188 = .ok (.aload_n 0, 1) := by decide +kernel
theorem dL_law_189 : decode cL_law 189 = .ok (.iload_n 3, 1) := by decide +kernel
theorem dL_law_190 : decode cL_law 190 = .ok (.iconst 1, 1) := by decide +kernel
theorem dL_law_191 : decode cL_law 191 = .ok (.iadd, 1) := by decide +kernel
theorem dL_law_192 : decode cL_law 192 = .ok (.iaload, 1) := by decide +kernel
theorem dL_law_193 : decode cL_law 193 = .ok (.invokevirtual 34, 3) := by decide +kernel
theorem dL_law_196 : decode cL_law 196 = .ok (.if_icmp .eq 296, 3) := by decide +kernel
theorem dL_law_199 : decode cL_law 199 = .ok (.iconst 0, 1) := by decide +kernel
theorem dL_law_200 : decode cL_law 200 = .ok (.ireturn, 1) := by decide +kernel
theorem dL_law_201 : decode cL_law 201 = .ok (.aload_n 1, 1) := by decide +kernel
theorem dL_law_202 : decode cL_law 202 = .ok (.aload_n 0, 1) := by decide +kernel
theorem dL_law_203 : decode cL_law 203 = .ok (.iload_n 3, 1) := by decide +kernel
theorem dL_law_204 : decode cL_law 204 = .ok (.iconst 1, 1) := by decide +kernel
theorem dL_law_205 : decode cL_law 205 = .ok (.iadd, 1) := by decide +kernel
theorem dL_law_206 : decode cL_law 206 = .ok (.iaload, 1) := by decide +kernel
theorem dL_law_207 : decode cL_law 207 = .ok (.aload_n 0, 1) := by decide +kernel
theorem dL_law_208 : decode cL_law 208 = .ok (.iload_n 3, 1) := by decide +kernel
theorem dL_law_209 : decode cL_law 209 = .ok (.iconst 2, 1) := by decide +kernel
theorem dL_law_210 : decode cL_law 210 = .ok (.iadd, 1) := by decide +kernel
theorem dL_law_211 : decode cL_law 211 = .ok (.iaload, 1) := by decide +kernel
theorem dL_law_212 : decode cL_law 212 = .ok (.aload_n 0, 1) := by decide +kernel
theorem dL_law_213 : decode cL_law 213 = .ok (.iload_n 3, 1) := by decide +kernel
theorem dL_law_214 : decode cL_law 214 = .ok (.iconst 3, 1) := by decide +kernel
theorem dL_law_215 : decode cL_law 215 = .ok (.iadd, 1) := by decide +kernel
theorem dL_law_216 : decode cL_law 216 = .ok (.iaload, 1) := by decide +kernel
theorem dL_law_217 : decode cL_law 217 = .ok (.invokevirtual 35, 3) := by decide +kernel
theorem dL_law_220 : decode cL_law 220 = .ok (.aload_n 2, 1) := by decide +kernel
theorem dL_law_221 : decode cL_law 221 = .ok (.aload_n 0, 1) := by decide +kernel
theorem dL_law_222 : decode cL_law 222 = .ok (.iload_n 3, 1) := by decide +kernel
theorem dL_law_223 : decode cL_law 223 = .ok (.iconst 1, 1) := by decide +kernel
theorem dL_law_224 : decode cL_law 224 = .ok (.iadd, 1) := by decide +kernel
theorem dL_law_225 : decode cL_law 225 = .ok (.iaload, 1) := by decide +kernel
theorem dL_law_226 : decode cL_law 226 = .ok (.aload_n 0, 1) := by decide +kernel
theorem dL_law_227 : decode cL_law 227 = .ok (.iload_n 3, 1) := by decide +kernel
theorem dL_law_228 : decode cL_law 228 = .ok (.iconst 2, 1) := by decide +kernel
theorem dL_law_229 : decode cL_law 229 = .ok (.iadd, 1) := by decide +kernel
theorem dL_law_230 : decode cL_law 230 = .ok (.iaload, 1) := by decide +kernel
theorem dL_law_231 : decode cL_law 231 = .ok (.aload_n 0, 1) := by decide +kernel
theorem dL_law_232 : decode cL_law 232 = .ok (.iload_n 3, 1) := by decide +kernel
theorem dL_law_233 : decode cL_law 233 = .ok (.iconst 3, 1) := by decide +kernel
theorem dL_law_234 : decode cL_law 234 = .ok (.iadd, 1) := by decide +kernel
theorem dL_law_235 : decode cL_law 235 = .ok (.iaload, 1) := by decide +kernel
theorem dL_law_236 : decode cL_law 236 = .ok (.invokevirtual 39, 3) := by decide +kernel
theorem dL_law_239 : decode cL_law 239 = .ok (.if_icmp .eq 253, 3) := by decide +kernel
theorem dL_law_242 : decode cL_law 242 = .ok (.iconst 0, 1) := by decide +kernel
theorem dL_law_243 : decode cL_law 243 = .ok (.ireturn, 1) := by decide +kernel
theorem dL_law_244 : decode cL_law 244 = .ok (.aload_n 1, 1) := by decide +kernel
theorem dL_law_245 : decode cL_law 245 = .ok (.aload_n 0, 1) := by decide +kernel
theorem dL_law_246 : decode cL_law 246 = .ok (.iload_n 3, 1) := by decide +kernel
theorem dL_law_247 : decode cL_law 247 = .ok (.iconst 1, 1) := by decide +kernel
theorem dL_law_248 : decode cL_law 248 = .ok (.iadd, 1) := by decide +kernel
theorem dL_law_249 : decode cL_law 249 = .ok (.iaload, 1) := by decide +kernel
theorem dL_law_250 : decode cL_law 250 = .ok (.aload_n 0, 1) := by decide +kernel
theorem dL_law_251 : decode cL_law 251 = .ok (.iload_n 3, 1) := by decide +kernel
theorem dL_law_252 : decode cL_law 252 = .ok (.iconst 2, 1) := by decide +kernel
theorem dL_law_253 : decode cL_law 253 = .ok (.iadd, 1) := by decide +kernel
theorem dL_law_254 : decode cL_law 254 = .ok (.iaload, 1) := by decide +kernel
theorem dL_law_255 : decode cL_law 255 = .ok (.aload_n 0, 1) := by decide +kernel
theorem dL_law_256 : decode cL_law 256 = .ok (.iload_n 3, 1) := by decide +kernel
theorem dL_law_257 : decode cL_law 257 = .ok (.iconst 3, 1) := by decide +kernel
theorem dL_law_258 : decode cL_law 258 = .ok (.iadd, 1) := by decide +kernel
theorem dL_law_259 : decode cL_law 259 = .ok (.iaload, 1) := by decide +kernel
theorem dL_law_260 : decode cL_law 260 = .ok (.invokevirtual 40, 3) := by decide +kernel
theorem dL_law_263 : decode cL_law 263 = .ok (.aload_n 2, 1) := by decide +kernel
theorem dL_law_264 : decode cL_law 264 = .ok (.aload_n 0, 1) := by decide +kernel
theorem dL_law_265 : decode cL_law 265 = .ok (.iload_n 3, 1) := by decide +kernel
theorem dL_law_266 : decode cL_law 266 = .ok (.iconst 1, 1) := by decide +kernel
theorem dL_law_267 : decode cL_law 267 = .ok (.iadd, 1) := by decide +kernel
theorem dL_law_268 : decode cL_law 268 = .ok (.iaload, 1) := by decide +kernel
theorem dL_law_269 : decode cL_law 269 = .ok (.aload_n 0, 1) := by decide +kernel
theorem dL_law_270 : decode cL_law 270 = .ok (.iload_n 3, 1) := by decide +kernel
theorem dL_law_271 : decode cL_law 271 = .ok (.iconst 2, 1) := by decide +kernel
theorem dL_law_272 : decode cL_law 272 = .ok (.iadd, 1) := by decide +kernel
theorem dL_law_273 : decode cL_law 273 = .ok (.iaload, 1) := by decide +kernel
theorem dL_law_274 : decode cL_law 274 = .ok (.aload_n 0, 1) := by decide +kernel
theorem dL_law_275 : decode cL_law 275 = .ok (.iload_n 3, 1) := by decide +kernel
theorem dL_law_276 : decode cL_law 276 = .ok (.iconst 3, 1) := by decide +kernel
theorem dL_law_277 : decode cL_law 277 = .ok (.iadd, 1) := by decide +kernel
theorem dL_law_278 : decode cL_law 278 = .ok (.iaload, 1) := by decide +kernel
theorem dL_law_279 : decode cL_law 279 = .ok (.invokevirtual 43, 3) := by decide +kernel
theorem dL_law_282 : decode cL_law 282 = .ok (.if_icmp .eq 210, 3) := by decide +kernel
theorem dL_law_285 : decode cL_law 285 = .ok (.iconst 0, 1) := by decide +kernel
theorem dL_law_286 : decode cL_law 286 = .ok (.ireturn, 1) := by decide +kernel
theorem dL_law_287 : decode cL_law 287 = .ok (.aload_n 1, 1) := by decide +kernel
theorem dL_law_288 : decode cL_law 288 = .ok (.aload_n 0, 1) := by decide +kernel
theorem dL_law_289 : decode cL_law 289 = .ok (.iload_n 3, 1) := by decide +kernel
theorem dL_law_290 : decode cL_law 290 = .ok (.iconst 1, 1) := by decide +kernel
theorem dL_law_291 : decode cL_law 291 = .ok (.iadd, 1) := by decide +kernel
theorem dL_law_292 : decode cL_law 292 = .ok (.iaload, 1) := by decide +kernel
theorem dL_law_293 : decode cL_law 293 = .ok (.aload_n 0, 1) := by decide +kernel
theorem dL_law_294 : decode cL_law 294 = .ok (.iload_n 3, 1) := by decide +kernel
theorem dL_law_295 : decode cL_law 295 = .ok (.iconst 2, 1) := by decide +kernel
theorem dL_law_296 : decode cL_law 296 = .ok (.iadd, 1) := by decide +kernel
theorem dL_law_297 : decode cL_law 297 = .ok (.iaload, 1) := by decide +kernel
theorem dL_law_298 : decode cL_law 298 = .ok (.invokevirtual 44, 3) := by decide +kernel
theorem dL_law_301 : decode cL_law 301 = .ok (.aload_n 2, 1) := by decide +kernel
theorem dL_law_302 : decode cL_law 302 = .ok (.aload_n 0, 1) := by decide +kernel
theorem dL_law_303 : decode cL_law 303 = .ok (.iload_n 3, 1) := by decide +kernel
theorem dL_law_304 : decode cL_law 304 = .ok (.iconst 1, 1) := by decide +kernel
theorem dL_law_305 : decode cL_law 305 = .ok (.iadd, 1) := by decide +kernel
theorem dL_law_306 : decode cL_law 306 = .ok (.iaload, 1) := by decide +kernel
theorem dL_law_307 : decode cL_law 307 = .ok (.aload_n 0, 1) := by decide +kernel
theorem dL_law_308 : decode cL_law 308 = .ok (.iload_n 3, 1) := by decide +kernel
theorem dL_law_309 : decode cL_law 309 = .ok (.iconst 2, 1) := by decide +kernel
theorem dL_law_310 : decode cL_law 310 = .ok (.iadd, 1) := by decide +kernel
theorem dL_law_311 : decode cL_law 311 = .ok (.iaload, 1) := by decide +kernel
theorem dL_law_312 : decode cL_law 312 = .ok (.invokevirtual 47, 3) := by decide +kernel
theorem dL_law_315 : decode cL_law 315 = .ok (.if_icmp .eq 177, 3) := by decide +kernel
theorem dL_law_318 : decode cL_law 318 = .ok (.iconst 0, 1) := by decide +kernel
theorem dL_law_319 : decode cL_law 319 = .ok (.ireturn, 1) := by decide +kernel
theorem dL_law_320 : decode cL_law 320 = .ok (.aload_n 1, 1) := by decide +kernel
theorem dL_law_321 : decode cL_law 321 = .ok (.invokevirtual 48, 3) := by decide +kernel
theorem dL_law_324 : decode cL_law 324 = .ok (.aload_n 2, 1) := by decide +kernel
theorem dL_law_325 : decode cL_law 325 = .ok (.invokevirtual 51, 3) := by decide +kernel
theorem dL_law_328 : decode cL_law 328 = .ok (.goto 164, 3) := by decide +kernel
theorem dL_law_331 : decode cL_law 331 = .ok (.aload_n 1, 1) := by decide +kernel
theorem dL_law_332 : decode cL_law 332 = .ok (.aload_n 0, 1) := by decide +kernel
theorem dL_law_333 : decode cL_law 333 = .ok (.iload_n 3, 1) := by decide +kernel
theorem dL_law_334 : decode cL_law 334 = .ok (.iconst 1, 1) := by decide +kernel
theorem dL_law_335 : decode cL_law 335 = .ok (.iadd, 1) := by decide +kernel
theorem dL_law_336 : decode cL_law 336 = .ok (.iaload, 1) := by decide +kernel
theorem dL_law_337 : decode cL_law 337 = .ok (.invokevirtual 52, 3) := by decide +kernel
theorem dL_law_340 : decode cL_law 340 = .ok (.aload_n 2, 1) := by decide +kernel
theorem dL_law_341 : decode cL_law 341 = .ok (.aload_n 0, 1) := by decide +kernel
theorem dL_law_342 : decode cL_law 342 = .ok (.iload_n 3, 1) := by decide +kernel
theorem dL_law_343 : decode cL_law 343 = .ok (.iconst 1, 1) := by decide +kernel
theorem dL_law_344 : decode cL_law 344 = .ok (.iadd, 1) := by decide +kernel
theorem dL_law_345 : decode cL_law 345 = .ok (.iaload, 1) := by decide +kernel
theorem dL_law_346 : decode cL_law 346 = .ok (.invokevirtual 55, 3) := by decide +kernel
theorem dL_law_349 : decode cL_law 349 = .ok (.if_icmp .eq 143, 3) := by decide +kernel
theorem dL_law_352 : decode cL_law 352 = .ok (.iconst 0, 1) := by decide +kernel
theorem dL_law_353 : decode cL_law 353 = .ok (.ireturn, 1) := by decide +kernel
theorem dL_law_354 : decode cL_law 354 = .ok (.aload_n 1, 1) := by decide +kernel
theorem dL_law_355 : decode cL_law 355 = .ok (.aload_n 0, 1) := by decide +kernel
theorem dL_law_356 : decode cL_law 356 = .ok (.iload_n 3, 1) := by decide +kernel
theorem dL_law_357 : decode cL_law 357 = .ok (.iconst 1, 1) := by decide +kernel
theorem dL_law_358 : decode cL_law 358 = .ok (.iadd, 1) := by decide +kernel
theorem dL_law_359 : decode cL_law 359 = .ok (.iaload, 1) := by decide +kernel
theorem dL_law_360 : decode cL_law 360 = .ok (.invokevirtual 56, 3) := by decide +kernel
theorem dL_law_363 : decode cL_law 363 = .ok (.aload_n 2, 1) := by decide +kernel
theorem dL_law_364 : decode cL_law 364 = .ok (.aload_n 0, 1) := by decide +kernel
theorem dL_law_365 : decode cL_law 365 = .ok (.iload_n 3, 1) := by decide +kernel
theorem dL_law_366 : decode cL_law 366 = .ok (.iconst 1, 1) := by decide +kernel
theorem dL_law_367 : decode cL_law 367 = .ok (.iadd, 1) := by decide +kernel
theorem dL_law_368 : decode cL_law 368 = .ok (.iaload, 1) := by decide +kernel
theorem dL_law_369 : decode cL_law 369 = .ok (.invokevirtual 60, 3) := by decide +kernel
theorem dL_law_372 : decode cL_law 372 = .ok (.if_icmp .eq 120, 3) := by decide +kernel
theorem dL_law_375 : decode cL_law 375 = .ok (.iconst 0, 1) := by decide +kernel
theorem dL_law_376 : decode cL_law 376 = .ok (.ireturn, 1) := by decide +kernel
theorem dL_law_377 : decode cL_law 377 = .ok (.aload_n 1, 1) := by decide +kernel
theorem dL_law_378 : decode cL_law 378 = .ok (.aload_n 0, 1) := by decide +kernel
theorem dL_law_379 : decode cL_law 379 = .ok (.iload_n 3, 1) := by decide +kernel
theorem dL_law_380 : decode cL_law 380 = .ok (.iconst 1, 1) := by decide +kernel
theorem dL_law_381 : decode cL_law 381 = .ok (.iadd, 1) := by decide +kernel
theorem dL_law_382 : decode cL_law 382 = .ok (.iaload, 1) := by decide +kernel
theorem dL_law_383 : decode cL_law 383 = .ok (.aload_n 0, 1) := by decide +kernel
theorem dL_law_384 : decode cL_law 384 = .ok (.iload_n 3, 1) := by decide +kernel
theorem dL_law_385 : decode cL_law 385 = .ok (.iconst 2, 1) := by decide +kernel
theorem dL_law_386 : decode cL_law 386 = .ok (.iadd, 1) := by decide +kernel
theorem dL_law_387 : decode cL_law 387 = .ok (.iaload, 1) := by decide +kernel
theorem dL_law_388 : decode cL_law 388 = .ok (.invokevirtual 61, 3) := by decide +kernel
theorem dL_law_391 : decode cL_law 391 = .ok (.aload_n 2, 1) := by decide +kernel
theorem dL_law_392 : decode cL_law 392 = .ok (.aload_n 0, 1) := by decide +kernel
theorem dL_law_393 : decode cL_law 393 = .ok (.iload_n 3, 1) := by decide +kernel
theorem dL_law_394 : decode cL_law 394 = .ok (.iconst 1, 1) := by decide +kernel
theorem dL_law_395 : decode cL_law 395 = .ok (.iadd, 1) := by decide +kernel
theorem dL_law_396 : decode cL_law 396 = .ok (.iaload, 1) := by decide +kernel
theorem dL_law_397 : decode cL_law 397 = .ok (.aload_n 0, 1) := by decide +kernel
theorem dL_law_398 : decode cL_law 398 = .ok (.iload_n 3, 1) := by decide +kernel
theorem dL_law_399 : decode cL_law 399 = .ok (.iconst 2, 1) := by decide +kernel
theorem dL_law_400 : decode cL_law 400 = .ok (.iadd, 1) := by decide +kernel
theorem dL_law_401 : decode cL_law 401 = .ok (.iaload, 1) := by decide +kernel
theorem dL_law_402 : decode cL_law 402 = .ok (.invokevirtual 65, 3) := by decide +kernel
theorem dL_law_405 : decode cL_law 405 = .ok (.if_icmp .eq 87, 3) := by decide +kernel
theorem dL_law_408 : decode cL_law 408 = .ok (.iconst 0, 1) := by decide +kernel
theorem dL_law_409 : decode cL_law 409 = .ok (.ireturn, 1) := by decide +kernel
theorem dL_law_410 : decode cL_law 410 = .ok (.aload_n 1, 1) := by decide +kernel
theorem dL_law_411 : decode cL_law 411 = .ok (.invokevirtual 66, 3) := by decide +kernel
theorem dL_law_414 : decode cL_law 414 = .ok (.aload_n 2, 1) := by decide +kernel
theorem dL_law_415 : decode cL_law 415 = .ok (.invokevirtual 70, 3) := by decide +kernel
theorem dL_law_418 : decode cL_law 418 = .ok (.if_icmp .eq 74, 3) := by decide +kernel
theorem dL_law_421 : decode cL_law 421 = .ok (.iconst 0, 1) := by decide +kernel
theorem dL_law_422 : decode cL_law 422 = .ok (.ireturn, 1) := by decide +kernel
theorem dL_law_423 : decode cL_law 423 = .ok (.aload_n 1, 1) := by decide +kernel
theorem dL_law_424 : decode cL_law 424 = .ok (.aload_n 0, 1) := by decide +kernel
theorem dL_law_425 : decode cL_law 425 = .ok (.iload_n 3, 1) := by decide +kernel
theorem dL_law_426 : decode cL_law 426 = .ok (.iconst 1, 1) := by decide +kernel
theorem dL_law_427 : decode cL_law 427 = .ok (.iadd, 1) := by decide +kernel
theorem dL_law_428 : decode cL_law 428 = .ok (.iaload, 1) := by decide +kernel
theorem dL_law_429 : decode cL_law 429 = .ok (.invokevirtual 71, 3) := by decide +kernel
theorem dL_law_432 : decode cL_law 432 = .ok (.aload_n 2, 1) := by decide +kernel
theorem dL_law_433 : decode cL_law 433 = .ok (.aload_n 0, 1) := by decide +kernel
theorem dL_law_434 : decode cL_law 434 = .ok (.iload_n 3, 1) := by decide +kernel
theorem dL_law_435 : decode cL_law 435 = .ok (.iconst 1, 1) := by decide +kernel
theorem dL_law_436 : decode cL_law 436 = .ok (.iadd, 1) := by decide +kernel
theorem dL_law_437 : decode cL_law 437 = .ok (.iaload, 1) := by decide +kernel
theorem dL_law_438 : decode cL_law 438 = .ok (.invokevirtual 74, 3) := by decide +kernel
theorem dL_law_441 : decode cL_law 441 = .ok (.if_icmp .eq 51, 3) := by decide +kernel
theorem dL_law_444 : decode cL_law 444 = .ok (.iconst 0, 1) := by decide +kernel
theorem dL_law_445 : decode cL_law 445 = .ok (.ireturn, 1) := by decide +kernel
theorem dL_law_446 : decode cL_law 446 = .ok (.aload_n 1, 1) := by decide +kernel
theorem dL_law_447 : decode cL_law 447 = .ok (.aload_n 0, 1) := by decide +kernel
theorem dL_law_448 : decode cL_law 448 = .ok (.iload_n 3, 1) := by decide +kernel
theorem dL_law_449 : decode cL_law 449 = .ok (.iconst 1, 1) := by decide +kernel
theorem dL_law_450 : decode cL_law 450 = .ok (.iadd, 1) := by decide +kernel
theorem dL_law_451 : decode cL_law 451 = .ok (.iaload, 1) := by decide +kernel
theorem dL_law_452 : decode cL_law 452 = .ok (.aload_n 0, 1) := by decide +kernel
theorem dL_law_453 : decode cL_law 453 = .ok (.iload_n 3, 1) := by decide +kernel
theorem dL_law_454 : decode cL_law 454 = .ok (.iconst 2, 1) := by decide +kernel
theorem dL_law_455 : decode cL_law 455 = .ok (.iadd, 1) := by decide +kernel
theorem dL_law_456 : decode cL_law 456 = .ok (.iaload, 1) := by decide +kernel
theorem dL_law_457 : decode cL_law 457 = .ok (.invokevirtual 75, 3) := by decide +kernel
theorem dL_law_460 : decode cL_law 460 = .ok (.aload_n 2, 1) := by decide +kernel
theorem dL_law_461 : decode cL_law 461 = .ok (.aload_n 0, 1) := by decide +kernel
theorem dL_law_462 : decode cL_law 462 = .ok (.iload_n 3, 1) := by decide +kernel
theorem dL_law_463 : decode cL_law 463 = .ok (.iconst 1, 1) := by decide +kernel
theorem dL_law_464 : decode cL_law 464 = .ok (.iadd, 1) := by decide +kernel
theorem dL_law_465 : decode cL_law 465 = .ok (.iaload, 1) := by decide +kernel
theorem dL_law_466 : decode cL_law 466 = .ok (.aload_n 0, 1) := by decide +kernel
theorem dL_law_467 : decode cL_law 467 = .ok (.iload_n 3, 1) := by decide +kernel
theorem dL_law_468 : decode cL_law 468 = .ok (.iconst 2, 1) := by decide +kernel
theorem dL_law_469 : decode cL_law 469 = .ok (.iadd, 1) := by decide +kernel
theorem dL_law_470 : decode cL_law 470 = .ok (.iaload, 1) := by decide +kernel
theorem dL_law_471 : decode cL_law 471 = .ok (.invokevirtual 78, 3) := by decide +kernel
theorem dL_law_474 : decode cL_law 474 = .ok (.if_icmp .eq 18, 3) := by decide +kernel
theorem dL_law_477 : decode cL_law 477 = .ok (.iconst 0, 1) := by decide +kernel
theorem dL_law_478 : decode cL_law 478 = .ok (.ireturn, 1) := by decide +kernel
theorem dL_law_479 : decode cL_law 479 = .ok (.aload_n 1, 1) := by decide +kernel
theorem dL_law_480 : decode cL_law 480 = .ok (.invokevirtual 79, 3) := by decide +kernel
theorem dL_law_483 : decode cL_law 483 = .ok (.aload_n 2, 1) := by decide +kernel
theorem dL_law_484 : decode cL_law 484 = .ok (.invokevirtual 82, 3) := by decide +kernel
theorem dL_law_487 : decode cL_law 487 = .ok (.if_icmp .eq 5, 3) := by decide +kernel
theorem dL_law_490 : decode cL_law 490 = .ok (.iconst 0, 1) := by decide +kernel
theorem dL_law_491 : decode cL_law 491 = .ok (.ireturn, 1) := by decide +kernel
theorem dL_law_492 : decode cL_law 492 = .ok (.iinc 3 4, 3) := by decide +kernel
theorem dL_law_495 : decode cL_law 495 = .ok (.goto (-467), 3) := by decide +kernel
theorem dL_law_498 : decode cL_law 498 = .ok (.iconst 1, 1) := by decide +kernel
theorem dL_law_499 : decode cL_law 499 = .ok (.ireturn, 1) := by decide +kernel
end
section
set_option maxRecDepth 100000
abbrev vwCl : List vw_C := [(RX1, TX1, 18), (RX2, TX2, 4)]
/-- a picture: field number, place, number -/
abbrev hs_S : Type := Nat → Nat → Nat
def hs_st (σ : hs_S) (k j v : Nat) : hs_S := fun k' j' => if k' = k then (if j' = j then v else σ k' j') else σ k' j'
/-- a method: code, locals, answer, class, room -/
abbrev hx_M : Type := ByteArray × Nat × Option FieldType × String × Room
/-- a world: the tables' numbers, the cells of a picture, the array classes -/
abbrev hx_V (S : Type) : Type := va_G × (S → va_W) × List (ClassId × FieldType)
/-- the rest of a run: p l e s m args below meth c cells slots Q A -/
abbrev hx_X : Type := Program × Launch × Env × State × MethodId × Array Value × List Frame × Method × Code × Nat × Nat × (State → Prop) × (Nat → Prop)
abbrev hx_p (X : hx_X) : Program := X.1
abbrev hx_l (X : hx_X) : Launch := X.2.1
abbrev hx_e (X : hx_X) : Env := X.2.2.1
abbrev hx_s (X : hx_X) : State := X.2.2.2.1
abbrev hx_m (X : hx_X) : MethodId := X.2.2.2.2.1
abbrev hx_args (X : hx_X) : Array Value := X.2.2.2.2.2.1
abbrev hx_below (X : hx_X) : List Frame := X.2.2.2.2.2.2.1
abbrev hx_meth (X : hx_X) : Method := X.2.2.2.2.2.2.2.1
abbrev hx_c (X : hx_X) : Code := X.2.2.2.2.2.2.2.2.1
abbrev hx_cells (X : hx_X) : Nat := X.2.2.2.2.2.2.2.2.2.1
abbrev hx_slots (X : hx_X) : Nat := X.2.2.2.2.2.2.2.2.2.2.1
abbrev hx_Q (X : hx_X) : State → Prop := X.2.2.2.2.2.2.2.2.2.2.2.1
abbrev hx_A (X : hx_X) : Nat → Prop := X.2.2.2.2.2.2.2.2.2.2.2.2
def hx_W {S : Type} (X : hx_X) (M : hx_M) (V : hx_V S) (σ : S) (pc : Nat) (lv : List (Nat × Value)) (st : List Value) : Prop :=
  ∀ (H : Heap) (locs : List Loc) (ls : Array Slot), va_P V.1 vwCl (V.2.1 σ) H → va_D (hx_A X) (V.2.1 σ) → va_S (hx_A X) (hx_s X).heap H locs → lv_has ls M.2.1 lv → W (hx_p X) (hx_l X) (hx_e X) M.2.2.2.2 (hx_s X) (hx_m X) (hx_args X) (hx_below X) (hx_meth X) (hx_c X) H locs (hx_cells X) (hx_slots X) (hx_Q X) (F0 (hx_m X) pc ls st)
def hx_F {S : Type} (X : hx_X) (M : hx_M) (V : hx_V S) : Prop :=
  (hx_p X).tables.exec = Jvm.exec ∧ (hx_c X).code = M.1 ∧ (hx_c X).maxLocals = M.2.1 ∧ (hx_s X).vm.findClass M.2.2.2.1 = some (hx_m X).cls ∧ (∀ w ∈ lw_all, w.before (hx_args X) (hx_s X) = true) ∧ (hx_meth X).sig.returnType = M.2.2.1 ∧ (hx_meth X).locks = false ∧ va_K V.1 vwCl V.2.2 (hx_s X) ∧ (∀ q : Nat, (hx_s X).heap.size ≤ q → hx_A X q) ∧ (hx_cells X ≤ M.2.2.2.2.cells ∧ hx_slots X ≤ M.2.2.2.2.slots)
def hx_E (X : hx_X) (Qc : Array Value → State → Outcome → State → Prop) : Prop := hx_Q X = MQ (hx_below X) Qc (hx_args X) (hx_s X) (hx_cells X) (hx_slots X) (hx_A X)
def hx_B {S : Type} (V : hx_V S) (A : Nat → Prop) (σ : S) (t : State) : Prop := va_P V.1 vwCl (V.2.1 σ) t.heap ∧ va_K V.1 vwCl V.2.2 t ∧ va_D A (V.2.1 σ)
def hx_Pc {S : Type} (V : hx_V S) (σ : S) (av : List Value) (sz : Nat) : Array Value → State → Prop := va_Pc av (fun U => U.heap.size = sz ∧ va_P V.1 vwCl (V.2.1 σ) U.heap ∧ va_K V.1 vwCl V.2.2 U ∧ va_D (fun _ => True) (V.2.1 σ))
def hx_CI {S : Type} (l : Launch) (y : MethodName) (M : hx_M) (V : hx_V S) (σ : S) (av : List Value) (post : Int32 → S → Prop) : Prop :=
  ∀ sz : Nat, Met l y (ws_ y M.1 M.2.1 M.2.2.1) M.2.2.2.2 (hx_Pc V σ av sz) (va_Qi post (hx_B V (va_A (V.2.1 σ) sz)) (va_A (V.2.1 σ) sz)) 0 0 (va_A (V.2.1 σ) sz)
def hx_CV {S : Type} (l : Launch) (y : MethodName) (M : hx_M) (V : hx_V S) (σ : S) (av : List Value) (post : S → Prop) : Prop :=
  ∀ sz : Nat, Met l y (ws_ y M.1 M.2.1 M.2.2.1) M.2.2.2.2 (hx_Pc V σ av sz) (va_Qv post (hx_B V (va_A (V.2.1 σ) sz)) (va_A (V.2.1 σ) sz)) 0 0 (va_A (V.2.1 σ) sz)
theorem hx_range {α : Type} (w : List α) : (List.range w.length).map (fun i => w[i]?) = w.map some := by
  apply List.ext_getElem?
  intro i
  by_cases h : i < w.length
  · simp [h]
  · simp [Nat.not_lt.mp h]
/-- a method's start -/
theorem hx_enter {S : Type} {l : Launch} {y : MethodName} {M : hx_M} {V : hx_V S} {σ : S} {av : List Value} {Qf : (Nat → Prop) → Array Value → State → Outcome → State → Prop} (hy : plainName y.cls = true) (hown : y.cls = M.2.2.2.1) (hlen : (lg_sl av).length ≤ M.2.1)
    (body : ∀ X : hx_X, hx_E X (Qf (hx_A X)) → hx_F X M V → hx_W X M V σ 0 (lv_args 0 av) []) :
    ∀ sz : Nat, Met l y (ws_ y M.1 M.2.1 M.2.2.1) M.2.2.2.2 (hx_Pc V σ av sz) (Qf (va_A (V.2.1 σ) sz)) 0 0 (va_A (V.2.1 σ) sz) := by
  intro sz
  refine Met.ofW (cc := M.1) (maxL := M.2.1) (ret := M.2.2.1) hy rfl ?_
  intro p e s m args below meth c s₁ B hml hv
  obtain ⟨rfl, hsz, hP, hK, hD0⟩ := hv
  have hts := atoms_spec (ws := ws_ y M.1 M.2.1 M.2.2.1) B.pre
  have hts : ∀ w ∈ lw_all, w.before _ s = true := fun w h => hts w (List.mem_cons_of_mem _ h)
  have ho : s.vm.findClass y.cls = some m.cls := findClass_of_methodNamed B.named
  subst hsz
  have hD := hD0.self (sz := s.heap.size)
  have hl := lv_entry av (n := M.2.1) hlen
  rw [lg_entry_eq]
  exact body (p, l, e, s, m, av.toArray, below, meth, c, 0, 0, MQ below (Qf (va_A (V.2.1 σ) s.heap.size)) av.toArray s 0 0 (va_A (V.2.1 σ) s.heap.size), va_A (V.2.1 σ) s.heap.size) rfl
    ⟨B.exec, B.bytes, hml, by rw [← hown]; exact ho, hts, B.returns, B.notSynchronized, hK, fun q h => Or.inr h, ⟨Nat.zero_le _, Nat.zero_le _⟩⟩ s.heap [] _ hP hD va_S.rf hl
theorem hx_enterI {S : Type} {l : Launch} {y : MethodName} {M : hx_M} {V : hx_V S} {σ : S} {av : List Value} {post : Int32 → S → Prop} (hy : plainName y.cls = true) (hown : y.cls = M.2.2.2.1) (hlen : (lg_sl av).length ≤ M.2.1)
    (body : ∀ X : hx_X, hx_E X (va_Qi post (hx_B V (hx_A X)) (hx_A X)) → hx_F X M V → hx_W X M V σ 0 (lv_args 0 av) []) : hx_CI l y M V σ av post :=
  hx_enter (Qf := fun A => va_Qi post (hx_B V A) A) hy hown hlen body
theorem hx_enterV {S : Type} {l : Launch} {y : MethodName} {M : hx_M} {V : hx_V S} {σ : S} {av : List Value} {post : S → Prop} (hy : plainName y.cls = true) (hown : y.cls = M.2.2.2.1) (hlen : (lg_sl av).length ≤ M.2.1)
    (body : ∀ X : hx_X, hx_E X (va_Qv post (hx_B V (hx_A X)) (hx_A X)) → hx_F X M V → hx_W X M V σ 0 (lv_args 0 av) []) : hx_CV l y M V σ av post :=
  hx_enter (Qf := fun A => va_Qv post (hx_B V A) A) hy hown hlen body
section HXR
variable {S : Type} {X : hx_X} {M : hx_M} {V : hx_V S} {σ : S} {pc : Nat} {lv : List (Nat × Value)} {st : List Value}
theorem hx_iret {post : Int32 → S → Prop} (F : hx_F X M V) (E : hx_E X (va_Qi post (hx_B V (hx_A X)) (hx_A X))) {ty : FieldType} (hr : M.2.2.1 = some ty) {v : Int32} (hn : narrow ty (.int v) = .int v) (hp : post v σ) (hdg : decode M.1 pc = .ok (.ireturn, 1)) : hx_W X M V σ pc lv [.int v] := by
  intro H locs ls hP hD hS hl
  rw [E]
  exact W.zret F.1 F.2.1 (F.2.2.2.2.2.1.trans hr) hn (fun t ht hW => ⟨⟨v, σ, rfl, hp, by rw [ht]; exact hP, va_K.moved hW.alike F.2.2.2.2.2.2.2.1, hD⟩, hS.F ht⟩) hS.2.2 hdg F.2.2.2.2.2.2.1
theorem hx_vret {post : S → Prop} (F : hx_F X M V) (E : hx_E X (va_Qv post (hx_B V (hx_A X)) (hx_A X))) (hr : M.2.2.1 = none) (hp : post σ) (hdg : decode M.1 pc = .ok (.return_, 1)) : hx_W X M V σ pc lv [] := by
  intro H locs ls hP hD hS hl
  rw [E]
  exact W.vret F.1 F.2.1 (F.2.2.2.2.2.1.trans hr) (fun t ht hW => ⟨⟨σ, rfl, hp, by rw [ht]; exact hP, va_K.moved hW.alike F.2.2.2.2.2.2.2.1, hD⟩, hS.F ht⟩) hS.2.2 hdg F.2.2.2.2.2.2.1
/-- the same with other words for the locals and the stack -/
theorem hx_as {σ' : S} {pc' : Nat} {lv' : List (Nat × Value)} {st' : List Value} (h1 : σ = σ') (h2 : pc = pc') (h3 : lv = lv') (h4 : st = st') (k : hx_W X M V σ' pc' lv' st') : hx_W X M V σ pc lv st := by
  subst h1; subst h2; subst h3; subst h4; exact k
/-- fewer locals, by their places -/
theorem hx_sub {lv' : List (Nat × Value)} (ks : List Nat) (hl' : lv_pick lv ks = lv') (k : hx_W X M V σ pc lv' st) : hx_W X M V σ pc lv st := fun H locs ls hP hD hS hl => k H locs ls hP hD hS (lv_sub hl ks hl')
theorem hx_top {x : Int32} (y : Int32) (h : x = y) (k : hx_W X M V σ pc lv (.int y :: st)) : hx_W X M V σ pc lv (.int x :: st) := by subst h; exact k
theorem hx_topN {a : Nat} (b : Nat) (h : a = b) (k : hx_W X M V σ pc lv (.int (nI b) :: st)) : hx_W X M V σ pc lv (.int (nI a) :: st) := by subst h; exact k
theorem hx_name {a : Nat} (k : ∀ b : Nat, b = a → hx_W X M V σ pc lv (.int (nI b) :: st)) : hx_W X M V σ pc lv (.int (nI a) :: st) := k a rfl
theorem hx_gen (k : ∀ ω : S, ω = σ → hx_W X M V ω pc lv st) : hx_W X M V σ pc lv st := k σ rfl
theorem hx_iconst (F : hx_F X M V) {n : Int} {v : Int32} (hdg : decode M.1 pc = .ok (.iconst n, 1)) (hv : Int32.ofInt n = v) (k : hx_W X M V σ (pc + 1) lv (.int v :: st)) : hx_W X M V σ pc lv st :=
  fun H locs ls hP hD hS hl => lv_iconst F.1 F.2.1 hdg hv (k H locs ls hP hD hS hl)
theorem hx_bipush (F : hx_F X M V) {n : Int} {v : Int32} (hdg : decode M.1 pc = .ok (.bipush n, 2)) (hv : (Int8.ofInt n).toInt32 = v) (k : hx_W X M V σ (pc + 2) lv (.int v :: st)) : hx_W X M V σ pc lv st :=
  fun H locs ls hP hD hS hl => lv_bipush F.1 F.2.1 hdg hv (k H locs ls hP hD hS hl)
theorem hx_sipush (F : hx_F X M V) {n : Int} {v : Int32} (hdg : decode M.1 pc = .ok (.sipush n, 3)) (hv : (Int16.ofInt n).toInt32 = v) (k : hx_W X M V σ (pc + 3) lv (.int v :: st)) : hx_W X M V σ pc lv st :=
  fun H locs ls hP hD hS hl => lv_sipush F.1 F.2.1 hdg hv (k H locs ls hP hD hS hl)
theorem hx_lconst (F : hx_F X M V) {n : Fin 2} {v : Int64} (hdg : decode M.1 pc = .ok (.lconst n, 1)) (hv : Int64.ofNat (n : Nat) = v) (k : hx_W X M V σ (pc + 1) lv (.long v :: st)) : hx_W X M V σ pc lv st :=
  fun H locs ls hP hD hS hl => lv_lconst F.1 F.2.1 hdg hv (k H locs ls hP hD hS hl)
theorem hx_ldc2 (F : hx_F X M V) {index : Nat} {v : Int64} (hq : Cond.constantLong M.2.2.2.1 index v ∈ lw_all) (hdg : decode M.1 pc = .ok (.ldc2_w index, 3)) (k : hx_W X M V σ (pc + 3) lv (.long v :: st)) : hx_W X M V σ pc lv st :=
  fun H locs ls hP hD hS hl => lv_ldc2 F.1 F.2.1 F.2.2.2.1 (F.2.2.2.2.1 _ hq) hdg (k H locs ls hP hD hS hl)
theorem hx_iload_n (F : hx_F X M V) {k0 : Fin 4} {i : Nat} {x : Int32} (hdg : decode M.1 pc = .ok (.iload_n k0, 1)) (hi : (k0 : Nat) = i) (pl : Nat) (hl0 : lv[pl]? = some (i, .int x)) (k : hx_W X M V σ (pc + 1) lv (.int x :: st)) : hx_W X M V σ pc lv st :=
  fun H locs ls hP hD hS hl => lv_iload_n F.1 F.2.1 hdg hi (lv_at hl pl hl0) (k H locs ls hP hD hS hl)
theorem hx_iload (F : hx_F X M V) {i : Nat} {x : Int32} (hdg : decode M.1 pc = .ok (.iload i, 2)) (pl : Nat) (hl0 : lv[pl]? = some (i, .int x)) (k : hx_W X M V σ (pc + 2) lv (.int x :: st)) : hx_W X M V σ pc lv st :=
  fun H locs ls hP hD hS hl => lv_iload F.1 F.2.1 hdg (lv_at hl pl hl0) (k H locs ls hP hD hS hl)
theorem hx_lload_n (F : hx_F X M V) {k0 : Fin 4} {i : Nat} {x : Int64} (hdg : decode M.1 pc = .ok (.lload_n k0, 1)) (hi : (k0 : Nat) = i) (pl : Nat) (hl0 : lv[pl]? = some (i, .long x)) (k : hx_W X M V σ (pc + 1) lv (.long x :: st)) : hx_W X M V σ pc lv st :=
  fun H locs ls hP hD hS hl => lv_lload_n F.1 F.2.1 hdg hi (lv_at hl pl hl0) (k H locs ls hP hD hS hl)
theorem hx_aload_n (F : hx_F X M V) {k0 : Fin 4} {i : Nat} {x : Nat} (hdg : decode M.1 pc = .ok (.aload_n k0, 1)) (hi : (k0 : Nat) = i) (pl : Nat) (hl0 : lv[pl]? = some (i, .ref x)) (k : hx_W X M V σ (pc + 1) lv (.ref x :: st)) : hx_W X M V σ pc lv st :=
  fun H locs ls hP hD hS hl => lv_aload_n F.1 F.2.1 hdg hi (lv_at hl pl hl0) (k H locs ls hP hD hS hl)
theorem hx_istore_n (F : hx_F X M V) {k0 : Fin 4} {i : Nat} {x : Int32} {lv' : List (Nat × Value)} (hdg : decode M.1 pc = .ok (.istore_n k0, 1)) (hi : (k0 : Nat) = i) (hn : i < M.2.1) (ks : List Nat) (hl' : lv_pick ((i, Value.int x) :: lv.filter (fun q => !(q.1 == i) && !(q.1 + 1 == i && q.2.category == 2))) ks = lv') (k : hx_W X M V σ (pc + 1) lv' st) : hx_W X M V σ pc lv (.int x :: st) :=
  fun H locs ls hP hD hS hl => lv_istore_n F.1 F.2.1 hdg hi hl hn rfl (fun ls' hl2 => k H locs ls' hP hD hS (lv_sub hl2 ks hl'))
theorem hx_istore (F : hx_F X M V) {i : Nat} {x : Int32} {lv' : List (Nat × Value)} (hdg : decode M.1 pc = .ok (.istore i, 2)) (hn : i < M.2.1) (ks : List Nat) (hl' : lv_pick ((i, Value.int x) :: lv.filter (fun q => !(q.1 == i) && !(q.1 + 1 == i && q.2.category == 2))) ks = lv') (k : hx_W X M V σ (pc + 2) lv' st) : hx_W X M V σ pc lv (.int x :: st) :=
  fun H locs ls hP hD hS hl => lv_istore F.1 F.2.1 hdg hl hn rfl (fun ls' hl2 => k H locs ls' hP hD hS (lv_sub hl2 ks hl'))
theorem hx_lstore_n (F : hx_F X M V) {k0 : Fin 4} {i : Nat} {x : Int64} {lv' : List (Nat × Value)} (hdg : decode M.1 pc = .ok (.lstore_n k0, 1)) (hi : (k0 : Nat) = i) (hn : i + 1 < M.2.1) (ks : List Nat) (hl' : lv_pick ((i, Value.long x) :: lv.filter (fun q => !(q.1 == i) && (!(q.1 == i + 1) && !(q.1 + 1 == i && q.2.category == 2)))) ks = lv') (k : hx_W X M V σ (pc + 1) lv' st) : hx_W X M V σ pc lv (.long x :: st) :=
  fun H locs ls hP hD hS hl => lv_lstore_n F.1 F.2.1 hdg hi hl hn rfl (fun ls' hl2 => k H locs ls' hP hD hS (lv_sub hl2 ks hl'))
theorem hx_astore_n (F : hx_F X M V) {k0 : Fin 4} {i : Nat} {x : Nat} {lv' : List (Nat × Value)} (hdg : decode M.1 pc = .ok (.astore_n k0, 1)) (hi : (k0 : Nat) = i) (hn : i < M.2.1) (ks : List Nat) (hl' : lv_pick ((i, Value.ref x) :: lv.filter (fun q => !(q.1 == i) && !(q.1 + 1 == i && q.2.category == 2))) ks = lv') (k : hx_W X M V σ (pc + 1) lv' st) : hx_W X M V σ pc lv (.ref x :: st) :=
  fun H locs ls hP hD hS hl => lv_astore_n F.1 F.2.1 hdg hi hl hn rfl (fun ls' hl2 => k H locs ls' hP hD hS (lv_sub hl2 ks hl'))
theorem hx_iinc (F : hx_F X M V) {i a b : Nat} {n : Int} {lv' : List (Nat × Value)} (hdg : decode M.1 pc = .ok (.iinc i n, 3)) (pl : Nat) (hl0 : lv[pl]? = some (i, .int (nI a))) (hv : nI a + Int32.ofInt n = nI b) (hn : i < M.2.1) (ks : List Nat) (hl' : lv_pick ((i, Value.int (nI b)) :: lv.filter (fun q => !(q.1 == i) && !(q.1 + 1 == i && q.2.category == 2))) ks = lv') (k : hx_W X M V σ (pc + 3) lv' st) : hx_W X M V σ pc lv st :=
  fun H locs ls hP hD hS hl => lv_iinc F.1 F.2.1 hdg hl hl0 hv hn rfl (fun ls' hl2 => k H locs ls' hP hD hS (lv_sub hl2 ks hl'))
theorem hx_inc1 (a : Nat) : nI a + Int32.ofInt 1 = nI (a + 1) := nI_1 a
theorem hx_inc4 (a : Nat) : nI a + Int32.ofInt 4 = nI (a + 4) := nI_add a 4
theorem hx_iadd (F : hx_F X M V) {a b : Nat} (hdg : decode M.1 pc = .ok (.iadd, 1)) (k : hx_W X M V σ (pc + 1) lv (.int (nI (a + b)) :: st)) : hx_W X M V σ pc lv (.int (nI b) :: .int (nI a) :: st) :=
  fun H locs ls hP hD hS hl => lv_iadd F.1 F.2.1 hdg (by rw [nI_add]; exact k H locs ls hP hD hS hl)
theorem hx_isub (F : hx_F X M V) {a b : Nat} (hab : b ≤ a) (hdg : decode M.1 pc = .ok (.isub, 1)) (k : hx_W X M V σ (pc + 1) lv (.int (nI (a - b)) :: st)) : hx_W X M V σ pc lv (.int (nI b) :: .int (nI a) :: st) :=
  fun H locs ls hP hD hS hl => lv_isub F.1 F.2.1 hdg (by rw [pk_sub hab]; exact k H locs ls hP hD hS hl)
theorem hx_isubR (F : hx_F X M V) {x y : Int32} (hdg : decode M.1 pc = .ok (.isub, 1)) (k : hx_W X M V σ (pc + 1) lv (.int (x - y) :: st)) : hx_W X M V σ pc lv (.int y :: .int x :: st) :=
  fun H locs ls hP hD hS hl => lv_isub F.1 F.2.1 hdg (k H locs ls hP hD hS hl)
theorem hx_imul (F : hx_F X M V) {a b : Nat} (hdg : decode M.1 pc = .ok (.imul, 1)) (k : hx_W X M V σ (pc + 1) lv (.int (nI (a * b)) :: st)) : hx_W X M V σ pc lv (.int (nI b) :: .int (nI a) :: st) :=
  fun H locs ls hP hD hS hl => lv_imul F.1 F.2.1 hdg (by rw [pk_mul]; exact k H locs ls hP hD hS hl)
theorem hx_idiv (F : hx_F X M V) {a b : Nat} (ha : a < 2147483648) (h0 : 0 < b) (hb : b < 2147483648) (hdg : decode M.1 pc = .ok (.idiv, 1)) (k : hx_W X M V σ (pc + 1) lv (.int (nI (a / b)) :: st)) : hx_W X M V σ pc lv (.int (nI b) :: .int (nI a) :: st) :=
  fun H locs ls hP hD hS hl => lv_idiv F.1 F.2.1 hdg (nI_ne0 h0 hb) (by rw [pk_div ha h0 hb]; exact k H locs ls hP hD hS hl)
theorem hx_dup (F : hx_F X M V) {va : Value} (hdg : decode M.1 pc = .ok (.dup, 1)) (hva : va.category = 1) (k : hx_W X M V σ (pc + 1) lv (va :: va :: st)) : hx_W X M V σ pc lv (va :: st) :=
  fun H locs ls hP hD hS hl => lv_dup F.1 F.2.1 hdg hva (k H locs ls hP hD hS hl)
theorem hx_dup2 (F : hx_F X M V) {va vb : Value} (hdg : decode M.1 pc = .ok (.dup2, 1)) (hva : va.category = 1) (hvb : vb.category = 1) (k : hx_W X M V σ (pc + 1) lv (va :: vb :: va :: vb :: st)) : hx_W X M V σ pc lv (va :: vb :: st) :=
  fun H locs ls hP hD hS hl => lv_dup2_11 F.1 F.2.1 hdg hva hvb (k H locs ls hP hD hS hl)
theorem hx_goto (F : hx_F X M V) {off : Int} {tgt : Nat} (hdg : decode M.1 pc = .ok (.goto off, 3)) (ht : (pc : Int) + off = (tgt : Int)) (k : hx_W X M V σ tgt lv st) : hx_W X M V σ pc lv st :=
  fun H locs ls hP hD hS hl => lv_goto F.1 F.2.1 hdg ht (k H locs ls hP hD hS hl)
theorem hx_lor (F : hx_F X M V) {x y : Int64} (hdg : decode M.1 pc = .ok (.lor, 1)) (k : hx_W X M V σ (pc + 1) lv (.long (x ||| y) :: st)) : hx_W X M V σ pc lv (.long y :: .long x :: st) :=
  fun H locs ls hP hD hS hl => lv_lor F.1 F.2.1 hdg (k H locs ls hP hD hS hl)
theorem hx_land (F : hx_F X M V) {x y : Int64} (hdg : decode M.1 pc = .ok (.land, 1)) (k : hx_W X M V σ (pc + 1) lv (.long (x &&& y) :: st)) : hx_W X M V σ pc lv (.long y :: .long x :: st) :=
  fun H locs ls hP hD hS hl => lv_land F.1 F.2.1 hdg (k H locs ls hP hD hS hl)
theorem hx_lxor (F : hx_F X M V) {x y : Int64} (hdg : decode M.1 pc = .ok (.lxor, 1)) (k : hx_W X M V σ (pc + 1) lv (.long (x ^^^ y) :: st)) : hx_W X M V σ pc lv (.long y :: .long x :: st) :=
  fun H locs ls hP hD hS hl => lv_lxor F.1 F.2.1 hdg (k H locs ls hP hD hS hl)
theorem hx_lushr (F : hx_F X M V) {x v : Int64} {y : Int32} (hdg : decode M.1 pc = .ok (.lushr, 1)) (hv : (x.toUInt64 >>> (y.toInt64.toUInt64 &&& Int64.toUInt64 63)).toInt64 = v) (k : hx_W X M V σ (pc + 1) lv (.long v :: st)) : hx_W X M V σ pc lv (.int y :: .long x :: st) :=
  fun H locs ls hP hD hS hl => lv_lushr F.1 F.2.1 hdg hv (k H locs ls hP hD hS hl)
theorem hx_lshl (F : hx_F X M V) {x v : Int64} {y : Int32} (hdg : decode M.1 pc = .ok (.lshl, 1)) (hv : x <<< (y.toInt64 &&& 63) = v) (k : hx_W X M V σ (pc + 1) lv (.long v :: st)) : hx_W X M V σ pc lv (.int y :: .long x :: st) :=
  fun H locs ls hP hD hS hl => lv_lshl F.1 F.2.1 hdg hv (k H locs ls hP hD hS hl)
theorem hx_lcmp (F : hx_F X M V) {x y : Int64} (hdg : decode M.1 pc = .ok (.lcmp, 1)) (k : hx_W X M V σ (pc + 1) lv (.int (lg_cmp x y) :: st)) : hx_W X M V σ pc lv (.long y :: .long x :: st) :=
  fun H locs ls hP hD hS hl => W.lcmp F.1 F.2.1 hdg (k H locs ls hP hD hS hl)
theorem hx_topl {x : Int64} (y : Int64) (h : x = y) (k : hx_W X M V σ pc lv (.long y :: st)) : hx_W X M V σ pc lv (.long x :: st) := by subst h; exact k
theorem hx_if_eqR (F : hx_F X M V) {x : Int32} {off : Int} {tgt : Nat} (hdg : decode M.1 pc = .ok (.ifCond .eq off, 3)) (ht : (pc : Int) + off = (tgt : Int)) (k1 : x = 0 → hx_W X M V σ tgt lv st) (k2 : ¬ x = 0 → hx_W X M V σ (pc + 3) lv st) : hx_W X M V σ pc lv (.int x :: st) :=
  fun H locs ls hP hD hS hl => lv_if_eq F.1 F.2.1 hdg ht (fun h => k1 h H locs ls hP hD hS hl) (fun h => k2 h H locs ls hP hD hS hl)
theorem hx_icmp_eqR (F : hx_F X M V) {x y : Int32} {off : Int} {tgt : Nat} (hdg : decode M.1 pc = .ok (.if_icmp .eq off, 3)) (ht : (pc : Int) + off = (tgt : Int)) (k1 : x = y → hx_W X M V σ tgt lv st) (k2 : ¬ x = y → hx_W X M V σ (pc + 3) lv st) : hx_W X M V σ pc lv (.int y :: .int x :: st) :=
  fun H locs ls hP hD hS hl => lv_icmp_eq F.1 F.2.1 hdg ht (fun h => k1 h H locs ls hP hD hS hl) (fun h => k2 h H locs ls hP hD hS hl)
theorem hx_if_neR (F : hx_F X M V) {x : Int32} {off : Int} {tgt : Nat} (hdg : decode M.1 pc = .ok (.ifCond .ne off, 3)) (ht : (pc : Int) + off = (tgt : Int)) (k1 : ¬ x = 0 → hx_W X M V σ tgt lv st) (k2 : x = 0 → hx_W X M V σ (pc + 3) lv st) : hx_W X M V σ pc lv (.int x :: st) :=
  fun H locs ls hP hD hS hl => lv_if_ne F.1 F.2.1 hdg ht (fun h => k1 h H locs ls hP hD hS hl) (fun h => k2 h H locs ls hP hD hS hl)
theorem hx_icmp_neR (F : hx_F X M V) {x y : Int32} {off : Int} {tgt : Nat} (hdg : decode M.1 pc = .ok (.if_icmp .ne off, 3)) (ht : (pc : Int) + off = (tgt : Int)) (k1 : ¬ x = y → hx_W X M V σ tgt lv st) (k2 : x = y → hx_W X M V σ (pc + 3) lv st) : hx_W X M V σ pc lv (.int y :: .int x :: st) :=
  fun H locs ls hP hD hS hl => lv_icmp_ne F.1 F.2.1 hdg ht (fun h => k1 h H locs ls hP hD hS hl) (fun h => k2 h H locs ls hP hD hS hl)
theorem hx_if_ltR (F : hx_F X M V) {x : Int32} {off : Int} {tgt : Nat} (hdg : decode M.1 pc = .ok (.ifCond .lt off, 3)) (ht : (pc : Int) + off = (tgt : Int)) (k1 : x < 0 → hx_W X M V σ tgt lv st) (k2 : ¬ x < 0 → hx_W X M V σ (pc + 3) lv st) : hx_W X M V σ pc lv (.int x :: st) :=
  fun H locs ls hP hD hS hl => lv_if_lt F.1 F.2.1 hdg ht (fun h => k1 h H locs ls hP hD hS hl) (fun h => k2 h H locs ls hP hD hS hl)
theorem hx_icmp_ltR (F : hx_F X M V) {x y : Int32} {off : Int} {tgt : Nat} (hdg : decode M.1 pc = .ok (.if_icmp .lt off, 3)) (ht : (pc : Int) + off = (tgt : Int)) (k1 : x < y → hx_W X M V σ tgt lv st) (k2 : ¬ x < y → hx_W X M V σ (pc + 3) lv st) : hx_W X M V σ pc lv (.int y :: .int x :: st) :=
  fun H locs ls hP hD hS hl => lv_icmp_lt F.1 F.2.1 hdg ht (fun h => k1 h H locs ls hP hD hS hl) (fun h => k2 h H locs ls hP hD hS hl)
theorem hx_if_geR (F : hx_F X M V) {x : Int32} {off : Int} {tgt : Nat} (hdg : decode M.1 pc = .ok (.ifCond .ge off, 3)) (ht : (pc : Int) + off = (tgt : Int)) (k1 : 0 ≤ x → hx_W X M V σ tgt lv st) (k2 : ¬ 0 ≤ x → hx_W X M V σ (pc + 3) lv st) : hx_W X M V σ pc lv (.int x :: st) :=
  fun H locs ls hP hD hS hl => lv_if_ge F.1 F.2.1 hdg ht (fun h => k1 h H locs ls hP hD hS hl) (fun h => k2 h H locs ls hP hD hS hl)
theorem hx_icmp_geR (F : hx_F X M V) {x y : Int32} {off : Int} {tgt : Nat} (hdg : decode M.1 pc = .ok (.if_icmp .ge off, 3)) (ht : (pc : Int) + off = (tgt : Int)) (k1 : y ≤ x → hx_W X M V σ tgt lv st) (k2 : ¬ y ≤ x → hx_W X M V σ (pc + 3) lv st) : hx_W X M V σ pc lv (.int y :: .int x :: st) :=
  fun H locs ls hP hD hS hl => lv_icmp_ge F.1 F.2.1 hdg ht (fun h => k1 h H locs ls hP hD hS hl) (fun h => k2 h H locs ls hP hD hS hl)
theorem hx_if_gtR (F : hx_F X M V) {x : Int32} {off : Int} {tgt : Nat} (hdg : decode M.1 pc = .ok (.ifCond .gt off, 3)) (ht : (pc : Int) + off = (tgt : Int)) (k1 : 0 < x → hx_W X M V σ tgt lv st) (k2 : ¬ 0 < x → hx_W X M V σ (pc + 3) lv st) : hx_W X M V σ pc lv (.int x :: st) :=
  fun H locs ls hP hD hS hl => lv_if_gt F.1 F.2.1 hdg ht (fun h => k1 h H locs ls hP hD hS hl) (fun h => k2 h H locs ls hP hD hS hl)
theorem hx_icmp_gtR (F : hx_F X M V) {x y : Int32} {off : Int} {tgt : Nat} (hdg : decode M.1 pc = .ok (.if_icmp .gt off, 3)) (ht : (pc : Int) + off = (tgt : Int)) (k1 : y < x → hx_W X M V σ tgt lv st) (k2 : ¬ y < x → hx_W X M V σ (pc + 3) lv st) : hx_W X M V σ pc lv (.int y :: .int x :: st) :=
  fun H locs ls hP hD hS hl => lv_icmp_gt F.1 F.2.1 hdg ht (fun h => k1 h H locs ls hP hD hS hl) (fun h => k2 h H locs ls hP hD hS hl)
theorem hx_if_leR (F : hx_F X M V) {x : Int32} {off : Int} {tgt : Nat} (hdg : decode M.1 pc = .ok (.ifCond .le off, 3)) (ht : (pc : Int) + off = (tgt : Int)) (k1 : x ≤ 0 → hx_W X M V σ tgt lv st) (k2 : ¬ x ≤ 0 → hx_W X M V σ (pc + 3) lv st) : hx_W X M V σ pc lv (.int x :: st) :=
  fun H locs ls hP hD hS hl => lv_if_le F.1 F.2.1 hdg ht (fun h => k1 h H locs ls hP hD hS hl) (fun h => k2 h H locs ls hP hD hS hl)
theorem hx_icmp_leR (F : hx_F X M V) {x y : Int32} {off : Int} {tgt : Nat} (hdg : decode M.1 pc = .ok (.if_icmp .le off, 3)) (ht : (pc : Int) + off = (tgt : Int)) (k1 : x ≤ y → hx_W X M V σ tgt lv st) (k2 : ¬ x ≤ y → hx_W X M V σ (pc + 3) lv st) : hx_W X M V σ pc lv (.int y :: .int x :: st) :=
  fun H locs ls hP hD hS hl => lv_icmp_le F.1 F.2.1 hdg ht (fun h => k1 h H locs ls hP hD hS hl) (fun h => k2 h H locs ls hP hD hS hl)
theorem hx_z0 {a : Nat} (h : a < 4294967296) : nI a = 0 ↔ a = 0 := by
  constructor
  · intro q
    have q2 : (nI a).toBitVec.toNat = (0 : Int32).toBitVec.toNat := by rw [q]
    rw [pk_tn h] at q2
    simpa using q2
  · intro q; subst q; exact nI_0
theorem hx_neg {a : Nat} (h : a < 4294967296) : nI a < 0 ↔ 2147483648 ≤ a := by
  rw [Int32.lt_iff_toInt_lt, Int32.toInt_zero]
  have h1 : (nI a).toInt = (nI a).toBitVec.toInt := rfl
  rw [h1, BitVec.toInt_eq_toNat_cond, pk_tn h]
  split <;> omega
theorem hx_eqN {a b : Nat} (ha : a < 4294967296) (hb : b < 4294967296) : nI a = nI b ↔ a = b := by
  constructor
  · intro q
    have q2 : (nI a).toBitVec.toNat = (nI b).toBitVec.toNat := by rw [q]
    rw [pk_tn ha, pk_tn hb] at q2
    exact q2
  · intro q; subst q; rfl
theorem hx_if_eq (F : hx_F X M V) {a : Nat} (ha : a < 4294967296) {off : Int} {tgt : Nat} (hdg : decode M.1 pc = .ok (.ifCond .eq off, 3)) (ht : (pc : Int) + off = (tgt : Int)) (k1 : a = 0 → hx_W X M V σ tgt lv st) (k2 : a ≠ 0 → hx_W X M V σ (pc + 3) lv st) : hx_W X M V σ pc lv (.int (nI a) :: st) :=
  hx_if_eqR F hdg ht (fun h => k1 ((hx_z0 ha).mp h)) (fun h => k2 (fun q => h ((hx_z0 ha).mpr q)))
theorem hx_if_ne (F : hx_F X M V) {a : Nat} (ha : a < 4294967296) {off : Int} {tgt : Nat} (hdg : decode M.1 pc = .ok (.ifCond .ne off, 3)) (ht : (pc : Int) + off = (tgt : Int)) (k1 : a ≠ 0 → hx_W X M V σ tgt lv st) (k2 : a = 0 → hx_W X M V σ (pc + 3) lv st) : hx_W X M V σ pc lv (.int (nI a) :: st) :=
  hx_if_neR F hdg ht (fun h => k1 (fun q => h ((hx_z0 ha).mpr q))) (fun h => k2 ((hx_z0 ha).mp h))
theorem hx_if_lt (F : hx_F X M V) {a : Nat} (ha : a < 4294967296) {off : Int} {tgt : Nat} (hdg : decode M.1 pc = .ok (.ifCond .lt off, 3)) (ht : (pc : Int) + off = (tgt : Int)) (k1 : 2147483648 ≤ a → hx_W X M V σ tgt lv st) (k2 : a < 2147483648 → hx_W X M V σ (pc + 3) lv st) : hx_W X M V σ pc lv (.int (nI a) :: st) :=
  hx_if_ltR F hdg ht (fun h => k1 ((hx_neg ha).mp h)) (fun h => k2 (Nat.lt_of_not_le (fun q => h ((hx_neg ha).mpr q))))
theorem hx_if_ge (F : hx_F X M V) {a : Nat} (ha : a < 4294967296) {off : Int} {tgt : Nat} (hdg : decode M.1 pc = .ok (.ifCond .ge off, 3)) (ht : (pc : Int) + off = (tgt : Int)) (k1 : a < 2147483648 → hx_W X M V σ tgt lv st) (k2 : 2147483648 ≤ a → hx_W X M V σ (pc + 3) lv st) : hx_W X M V σ pc lv (.int (nI a) :: st) :=
  hx_if_geR F hdg ht (fun h => k1 (Nat.lt_of_not_le (fun q => absurd ((hx_neg ha).mpr q) (Int32.not_lt.mpr h)))) (fun h => k2 ((hx_neg ha).mp (Int32.not_le.mp h)))
theorem hx_if_gt (F : hx_F X M V) {a : Nat} (ha : a < 2147483648) {off : Int} {tgt : Nat} (hdg : decode M.1 pc = .ok (.ifCond .gt off, 3)) (ht : (pc : Int) + off = (tgt : Int)) (k1 : 0 < a → hx_W X M V σ tgt lv st) (k2 : a = 0 → hx_W X M V σ (pc + 3) lv st) : hx_W X M V σ pc lv (.int (nI a) :: st) :=
  hx_if_gtR F hdg ht (fun h => k1 (Nat.pos_of_ne_zero (fun q => by subst q; exact absurd h (by decide)))) (fun h => k2 (Nat.eq_zero_of_not_pos (fun q => h (by rw [← nI_0]; exact nI_lt q ha))))
theorem hx_if_le (F : hx_F X M V) {a : Nat} (ha : a < 2147483648) {off : Int} {tgt : Nat} (hdg : decode M.1 pc = .ok (.ifCond .le off, 3)) (ht : (pc : Int) + off = (tgt : Int)) (k1 : a = 0 → hx_W X M V σ tgt lv st) (k2 : 0 < a → hx_W X M V σ (pc + 3) lv st) : hx_W X M V σ pc lv (.int (nI a) :: st) :=
  hx_if_leR F hdg ht (fun h => k1 (Nat.eq_zero_of_not_pos (fun q => nI_nle q ha h))) (fun h => k2 (Nat.pos_of_ne_zero (fun q => h (by subst q; decide))))
theorem hx_icmp_eq (F : hx_F X M V) {a b : Nat} (ha : a < 4294967296) (hb : b < 4294967296) {off : Int} {tgt : Nat} (hdg : decode M.1 pc = .ok (.if_icmp .eq off, 3)) (ht : (pc : Int) + off = (tgt : Int)) (k1 : a = b → hx_W X M V σ tgt lv st) (k2 : a ≠ b → hx_W X M V σ (pc + 3) lv st) : hx_W X M V σ pc lv (.int (nI b) :: .int (nI a) :: st) :=
  hx_icmp_eqR F hdg ht (fun h => k1 ((hx_eqN ha hb).mp h)) (fun h => k2 (fun q => h ((hx_eqN ha hb).mpr q)))
theorem hx_icmp_ne (F : hx_F X M V) {a b : Nat} (ha : a < 4294967296) (hb : b < 4294967296) {off : Int} {tgt : Nat} (hdg : decode M.1 pc = .ok (.if_icmp .ne off, 3)) (ht : (pc : Int) + off = (tgt : Int)) (k1 : a ≠ b → hx_W X M V σ tgt lv st) (k2 : a = b → hx_W X M V σ (pc + 3) lv st) : hx_W X M V σ pc lv (.int (nI b) :: .int (nI a) :: st) :=
  hx_icmp_neR F hdg ht (fun h => k1 (fun q => h ((hx_eqN ha hb).mpr q))) (fun h => k2 ((hx_eqN ha hb).mp h))
theorem hx_icmp_lt (F : hx_F X M V) {a b : Nat} (ha : a < 2147483648) (hb : b < 2147483648) {off : Int} {tgt : Nat} (hdg : decode M.1 pc = .ok (.if_icmp .lt off, 3)) (ht : (pc : Int) + off = (tgt : Int)) (k1 : a < b → hx_W X M V σ tgt lv st) (k2 : b ≤ a → hx_W X M V σ (pc + 3) lv st) : hx_W X M V σ pc lv (.int (nI b) :: .int (nI a) :: st) :=
  hx_icmp_ltR F hdg ht (fun h => k1 ((nI_ltI ha hb).mp h)) (fun h => k2 (Nat.le_of_not_lt (fun q => h ((nI_ltI ha hb).mpr q))))
theorem hx_icmp_ge (F : hx_F X M V) {a b : Nat} (ha : a < 2147483648) (hb : b < 2147483648) {off : Int} {tgt : Nat} (hdg : decode M.1 pc = .ok (.if_icmp .ge off, 3)) (ht : (pc : Int) + off = (tgt : Int)) (k1 : b ≤ a → hx_W X M V σ tgt lv st) (k2 : a < b → hx_W X M V σ (pc + 3) lv st) : hx_W X M V σ pc lv (.int (nI b) :: .int (nI a) :: st) :=
  hx_icmp_geR F hdg ht (fun h => k1 ((nI_leI hb ha).mp h)) (fun h => k2 (Nat.lt_of_not_le (fun q => h ((nI_leI hb ha).mpr q))))
theorem hx_icmp_gt (F : hx_F X M V) {a b : Nat} (ha : a < 2147483648) (hb : b < 2147483648) {off : Int} {tgt : Nat} (hdg : decode M.1 pc = .ok (.if_icmp .gt off, 3)) (ht : (pc : Int) + off = (tgt : Int)) (k1 : b < a → hx_W X M V σ tgt lv st) (k2 : a ≤ b → hx_W X M V σ (pc + 3) lv st) : hx_W X M V σ pc lv (.int (nI b) :: .int (nI a) :: st) :=
  hx_icmp_gtR F hdg ht (fun h => k1 ((nI_ltI hb ha).mp h)) (fun h => k2 (Nat.le_of_not_lt (fun q => h ((nI_ltI hb ha).mpr q))))
theorem hx_icmp_le (F : hx_F X M V) {a b : Nat} (ha : a < 2147483648) (hb : b < 2147483648) {off : Int} {tgt : Nat} (hdg : decode M.1 pc = .ok (.if_icmp .le off, 3)) (ht : (pc : Int) + off = (tgt : Int)) (k1 : a ≤ b → hx_W X M V σ tgt lv st) (k2 : b < a → hx_W X M V σ (pc + 3) lv st) : hx_W X M V σ pc lv (.int (nI b) :: .int (nI a) :: st) :=
  hx_icmp_leR F hdg ht (fun h => k1 ((nI_leI ha hb).mp h)) (fun h => k2 (Nat.lt_of_not_le (fun q => h ((nI_leI ha hb).mpr q))))
theorem hx_get (F : hx_F X M V) {ref C : String} {T : u_T} {N ci index a : Nat} (hin : ∀ w ∈ u_ws C T N, w ∈ lw_all) (q0 : Nat) {fs : List Value} (he : (V.2.1 σ)[q0]? = some (a, .inr (ci, fs))) (hc : vwCl[ci]? = some (C, T, N)) (k : Nat) (hk : k < N) (hlink : Cond.fieldLink M.2.2.2.1 index ref (T k).2.1 (T k).2.2.1 ∈ lw_all) (hrf : (T k).1 = ref) {v : Value} (hv : fs[k]? = some v) (hdg : decode M.1 pc = .ok (.getfield index, 3)) (kk : hx_W X M V σ (pc + 3) lv (v :: st)) : hx_W X M V σ pc lv (.ref a :: st) :=
  fun H locs ls hP hD hS hl => va_get F.1 F.2.1 F.2.2.2.2.1 hin F.2.2.2.1 F.2.2.2.2.2.2.2.1 hP q0 he hc k hk (F.2.2.2.2.1 _ hlink) (fun x hx => by rw [← hrf]; exact hx) hv hdg (kk H locs ls hP hD hS hl)
theorem hx_put (F : hx_F X M V) {ref C : String} {T : u_T} {N ci index a : Nat} (hin : ∀ w ∈ u_ws C T N, w ∈ lw_all) (ty0 : Nat → FieldType) (hty : ∀ k, k < N → parseFieldDescriptor (T k).2.2.1 = some (ty0 k)) (hnm : ∀ a, a < N → ∀ b, b < N → a ≠ b → (T a).2.1 ≠ (T b).2.1) (q0 : Nat) {fs : List Value} (he : (V.2.1 σ)[q0]? = some (a, .inr (ci, fs))) (hc : vwCl[ci]? = some (C, T, N)) (k : Nat) (hk : k < N) (hlink : Cond.fieldLink M.2.2.2.1 index ref (T k).2.1 (T k).2.2.1 ∈ lw_all) (hrf : (T k).1 = ref) (hfin : (T k).2.2.2 = false) {ty : FieldType} {v : Value} (hd : parseFieldDescriptor (T k).2.2.1 = some ty) (hn : narrow ty v = v) (hfit : fits ty v = true) (hl' : k < fs.length) (σ' : S) (hset : (V.2.1 σ).set q0 (a, .inr (ci, fs.set k v)) = V.2.1 σ') (hdg : decode M.1 pc = .ok (.putfield index, 3)) (kk : hx_W X M V σ' (pc + 3) lv st) : hx_W X M V σ pc lv (v :: .ref a :: st) :=
  fun H locs ls hP hD hS hl => va_put F.1 F.2.1 F.2.2.2.2.1 hin ty0 hty hnm F.2.2.2.1 F.2.2.2.2.2.2.2.1 hP hD hS q0 he hc k hk (F.2.2.2.2.1 _ hlink) (fun x hx => by rw [← hrf]; exact hx) hfin hd hn hfit hl' hdg (fun H1 locs1 hP1 hD1 hS1 => by rw [hset] at hP1 hD1; exact kk H1 locs1 ls hP1 hD1 hS1 hl)
theorem hx_iald (F : hx_F X M V) (q0 t0 : Nat) {a : Nat} {cA : ClassId} {n : Nat} {g : Nat → Nat} (ha : (V.2.1 σ)[q0]? = some (a, .inl (cA, n, .inl (fun j => nI (g j))))) (ht : V.2.2[t0]? = some (cA, .int)) (hn : n < 2147483648) {j : Nat} (hj : j < n) (hdg : decode M.1 pc = .ok (.iaload, 1)) (kk : hx_W X M V σ (pc + 1) lv (.int (nI (g j)) :: st)) : hx_W X M V σ pc lv (.int (nI j) :: .ref a :: st) :=
  fun H locs ls hP hD hS hl => va_iald F.1 F.2.1 F.2.2.2.2.2.2.2.1 hP q0 t0 ha ht (vp_in_nI hj hn) hdg (by rw [nI_clamp (Nat.lt_trans hj hn)]; exact kk H locs ls hP hD hS hl)
theorem hx_zald (F : hx_F X M V) (q0 t0 : Nat) {a : Nat} {cA : ClassId} {n : Nat} {g : Nat → Nat} (ha : (V.2.1 σ)[q0]? = some (a, .inl (cA, n, .inl (fun j => nI (g j))))) (ht : V.2.2[t0]? = some (cA, .boolean)) (hn : n < 2147483648) {j : Nat} (hj : j < n) (hdg : decode M.1 pc = .ok (.baload, 1)) (kk : hx_W X M V σ (pc + 1) lv (.int (nI (g j)) :: st)) : hx_W X M V σ pc lv (.int (nI j) :: .ref a :: st) :=
  fun H locs ls hP hD hS hl => va_zald F.1 F.2.1 F.2.2.2.2.2.2.2.1 hP q0 t0 ha ht (vp_in_nI hj hn) hdg (by rw [nI_clamp (Nat.lt_trans hj hn)]; exact kk H locs ls hP hD hS hl)
theorem hx_lald (F : hx_F X M V) (q0 t0 : Nat) {a : Nat} {cA : ClassId} {n : Nat} {g : Nat → Nat} (ha : (V.2.1 σ)[q0]? = some (a, .inl (cA, n, .inr (.inl (fun j => lN (g j)))))) (ht : V.2.2[t0]? = some (cA, .long)) (hn : n < 2147483648) {j : Nat} (hj : j < n) (hdg : decode M.1 pc = .ok (.laload, 1)) (kk : hx_W X M V σ (pc + 1) lv (.long (lN (g j)) :: st)) : hx_W X M V σ pc lv (.int (nI j) :: .ref a :: st) :=
  fun H locs ls hP hD hS hl => va_lald F.1 F.2.1 F.2.2.2.2.2.2.2.1 hP q0 t0 ha ht (vp_in_nI hj hn) hdg (by rw [nI_clamp (Nat.lt_trans hj hn)]; exact kk H locs ls hP hD hS hl)
theorem hx_upd {n j v : Nat} {g : Nat → Nat} (hj : j < n) (hn : n < 2147483648) : upd (fun i => nI (g i)) (nI j).toNatClampNeg (nI v) = fun i => nI (if i = j then v else g i) := by
  rw [nI_clamp (Nat.lt_trans hj hn)]
  funext i
  by_cases h : i = j <;> simp [upd, h]
theorem hx_updL {n j v : Nat} {g : Nat → Nat} (hj : j < n) (hn : n < 2147483648) : vp_updL (fun i => lN (g i)) (nI j).toNatClampNeg (lN v) = fun i => lN (if i = j then v else g i) := by
  rw [nI_clamp (Nat.lt_trans hj hn)]
  funext i
  by_cases h : i = j <;> simp [vp_updL, h]
theorem hx_iast (F : hx_F X M V) (q0 t0 : Nat) {a : Nat} {cA : ClassId} {n : Nat} {g : Nat → Nat} (ha : (V.2.1 σ)[q0]? = some (a, .inl (cA, n, .inl (fun j => nI (g j))))) (ht : V.2.2[t0]? = some (cA, .int)) (hn : n < 2147483648) {j v : Nat} (hj : j < n) (σ' : S) (hset : (V.2.1 σ).set q0 (a, .inl (cA, n, .inl (fun i => nI (if i = j then v else g i)))) = V.2.1 σ') (hdg : decode M.1 pc = .ok (.iastore, 1)) (kk : hx_W X M V σ' (pc + 1) lv st) : hx_W X M V σ pc lv (.int (nI v) :: .int (nI j) :: .ref a :: st) :=
  fun H locs ls hP hD hS hl => va_iast F.1 F.2.1 F.2.2.2.2.2.2.2.1 hP hD hS q0 t0 ha ht (vp_in_nI hj hn) hdg (fun H1 locs1 hP1 hD1 hS1 => by
    rw [hx_upd hj hn, hset] at hP1 hD1
    exact kk H1 locs1 ls hP1 hD1 hS1 hl)
theorem hx_zast (F : hx_F X M V) (q0 t0 : Nat) {a : Nat} {cA : ClassId} {n : Nat} {g : Nat → Nat} (ha : (V.2.1 σ)[q0]? = some (a, .inl (cA, n, .inl (fun j => nI (g j))))) (ht : V.2.2[t0]? = some (cA, .boolean)) (hn : n < 2147483648) {j v : Nat} (hj : j < n) (hv : v < 2) (σ' : S) (hset : (V.2.1 σ).set q0 (a, .inl (cA, n, .inl (fun i => nI (if i = j then v else g i)))) = V.2.1 σ') (hdg : decode M.1 pc = .ok (.bastore, 1)) (kk : hx_W X M V σ' (pc + 1) lv st) : hx_W X M V σ pc lv (.int (nI v) :: .int (nI j) :: .ref a :: st) :=
  fun H locs ls hP hD hS hl => va_zast F.1 F.2.1 F.2.2.2.2.2.2.2.1 hP hD hS q0 t0 ha ht (vp_in_nI hj hn) hdg (fun H1 locs1 hP1 hD1 hS1 => by
    have hz : vp_nar .boolean (nI v) = nI v := by
      match v, hv with
      | 0, _ => decide +kernel
      | 1, _ => decide +kernel
    rw [hz, hx_upd hj hn, hset] at hP1 hD1
    exact kk H1 locs1 ls hP1 hD1 hS1 hl)
theorem hx_last (F : hx_F X M V) (q0 t0 : Nat) {a : Nat} {cA : ClassId} {n : Nat} {g : Nat → Nat} (ha : (V.2.1 σ)[q0]? = some (a, .inl (cA, n, .inr (.inl (fun j => lN (g j)))))) (ht : V.2.2[t0]? = some (cA, .long)) (hn : n < 2147483648) {j v : Nat} (hj : j < n) (σ' : S) (hset : (V.2.1 σ).set q0 (a, .inl (cA, n, .inr (.inl (fun i => lN (if i = j then v else g i))))) = V.2.1 σ') (hdg : decode M.1 pc = .ok (.lastore, 1)) (kk : hx_W X M V σ' (pc + 1) lv st) : hx_W X M V σ pc lv (.long (lN v) :: .int (nI j) :: .ref a :: st) :=
  fun H locs ls hP hD hS hl => va_last F.1 F.2.1 F.2.2.2.2.2.2.2.1 hP hD hS q0 t0 ha ht (vp_in_nI hj hn) hdg (fun H1 locs1 hP1 hD1 hS1 => by
    rw [hx_updL hj hn, hset] at hP1 hD1
    exact kk H1 locs1 ls hP1 hD1 hS1 hl)
/-- a call through an object of the same world -/
theorem hx_callI {y : MethodName} {M' : hx_M} {C : String} {index n ci q0 b : Nat} {T : u_T} {N : Nat} {fs : List Value} {As rest : List Value} {post : Int32 → S → Prop} (F : hx_F X M V) (hM : hx_CI (hx_l X) y M' V σ (.ref b :: As) post) (cw : CallW M.2.2.2.2 (hx_s X) (hx_args X) M.2.2.2.1 C index y M'.1 M'.2.1 M'.2.2.1 (ws_ y M'.1 M'.2.1 M'.2.2.1) M'.2.2.2.2 0 0 n) (hc : vwCl[ci]? = some (C, T, N)) (he : (V.2.1 σ)[q0]? = some (b, .inr (ci, fs))) (hn : As.length = n) (hst : st = As.reverse ++ .ref b :: rest) (hrm : (rest.map fun v => v.category).sum ≤ 8) (hdg : decode M.1 pc = .ok (.invokevirtual index, 3))
    (kk : ∀ (r : Int32) (σ' : S), post r σ' → hx_W X M V σ' (pc + 3) lv (.int r :: rest)) : hx_W X M V σ pc lv st := by
  intro H locs ls hP hD hS hl
  obtain ⟨hx, hb, hml, hown, hts, -, -, hK, hA, hroom⟩ := id F
  have hFc := va_free (wc := V.2.1 σ) hD hS hA (List.range (V.2.1 σ).length) (hx_range _)
  refine va_calli (va_runV (As := As) (rest := rest) ⟨hx, hb, hml, hown, hts⟩ (hM H.size) cw ⟨fun a U g mk q => by obtain ⟨q0, q1, qP, qK, qD⟩ := q; exact ⟨q0, q1, qP, va_K.moved (u := U) (U := U.calling g mk a) (Vm.Alike.refl U.vm) qK, qD⟩, va_recv hK hP hc he, fun U hU hW => ⟨rfl, by rw [hU], by rw [hU]; exact hP, va_K.moved hW.alike hK, hD.weaken (fun _ _ _ _ => trivial)⟩⟩ rfl hn hl.1 hst (lv_room hrm) hdg hroom) hS (fun q _ h => hFc q h) hFc (fun r u t H1 locs1 ht hvm hp hB hz1 hk1 hS1 => ?_)
  obtain ⟨hP1, -, hD1⟩ := hB
  rw [ht] at hP1
  exact kk r u hp H1 locs1 ls hP1 (hD1.weaken (fun _ q _ h => hFc q.1 h)) hS1 hl
theorem hx_callV {y : MethodName} {M' : hx_M} {C : String} {index n ci q0 b : Nat} {T : u_T} {N : Nat} {fs : List Value} {As rest : List Value} {post : S → Prop} (F : hx_F X M V) (hM : hx_CV (hx_l X) y M' V σ (.ref b :: As) post) (cw : CallW M.2.2.2.2 (hx_s X) (hx_args X) M.2.2.2.1 C index y M'.1 M'.2.1 M'.2.2.1 (ws_ y M'.1 M'.2.1 M'.2.2.1) M'.2.2.2.2 0 0 n) (hc : vwCl[ci]? = some (C, T, N)) (he : (V.2.1 σ)[q0]? = some (b, .inr (ci, fs))) (hn : As.length = n) (hst : st = As.reverse ++ .ref b :: rest) (hrm : (rest.map fun v => v.category).sum ≤ 8) (hdg : decode M.1 pc = .ok (.invokevirtual index, 3))
    (kk : ∀ (σ' : S), post σ' → hx_W X M V σ' (pc + 3) lv rest) : hx_W X M V σ pc lv st := by
  intro H locs ls hP hD hS hl
  obtain ⟨hx, hb, hml, hown, hts, -, -, hK, hA, hroom⟩ := id F
  have hFc := va_free (wc := V.2.1 σ) hD hS hA (List.range (V.2.1 σ).length) (hx_range _)
  refine va_callv (va_runV (As := As) (rest := rest) ⟨hx, hb, hml, hown, hts⟩ (hM H.size) cw ⟨fun a U g mk q => by obtain ⟨q0, q1, qP, qK, qD⟩ := q; exact ⟨q0, q1, qP, va_K.moved (u := U) (U := U.calling g mk a) (Vm.Alike.refl U.vm) qK, qD⟩, va_recv hK hP hc he, fun U hU hW => ⟨rfl, by rw [hU], by rw [hU]; exact hP, va_K.moved hW.alike hK, hD.weaken (fun _ _ _ _ => trivial)⟩⟩ rfl hn hl.1 hst (lv_room hrm) hdg hroom) hS (fun q _ h => hFc q h) hFc (fun u t H1 locs1 ht hvm hp hB hz1 hk1 hS1 => ?_)
  obtain ⟨hP1, -, hD1⟩ := hB
  rw [ht] at hP1
  exact kk u hp H1 locs1 ls hP1 (hD1.weaken (fun _ q _ h => hFc q.1 h)) hS1 hl
/-- a static call in the same world -/
theorem hx_callS {y : MethodName} {M' : hx_M} {index n : Nat} {As rest : List Value} {post : Int32 → S → Prop} (F : hx_F X M V) (hM : hx_CI (hx_l X) y M' V σ As post) (cw : CallB M.2.2.2.2 (hx_s X) (hx_args X) M.2.2.2.1 index y M'.1 M'.2.1 M'.2.2.1 (ws_ y M'.1 M'.2.1 M'.2.2.1) M'.2.2.2.2 0 0 n ∧ (Cond.static y).before (hx_args X) (hx_s X) = true) (hn : As.length = n) (hst : st = As.reverse ++ rest) (hrm : (rest.map fun v => v.category).sum ≤ 8) (hdg : decode M.1 pc = .ok (.invokestatic index, 3))
    (kk : ∀ (r : Int32) (σ' : S), post r σ' → hx_W X M V σ' (pc + 3) lv (.int r :: rest)) : hx_W X M V σ pc lv st := by
  intro H locs ls hP hD hS hl
  obtain ⟨hx, hb, hml, hown, hts, -, -, hK, hA, hroom⟩ := id F
  have hFc := va_free (wc := V.2.1 σ) hD hS hA (List.range (V.2.1 σ).length) (hx_range _)
  refine va_calli (va_runS (As := As) (rest := rest) ⟨hx, hb, hml, hown, hts⟩ (hM H.size) cw ⟨fun a U g mk q => by obtain ⟨q0, q1, qP, qK, qD⟩ := q; exact ⟨q0, q1, qP, va_K.moved (u := U) (U := U.calling g mk a) (Vm.Alike.refl U.vm) qK, qD⟩, fun U hU hW => ⟨rfl, by rw [hU], by rw [hU]; exact hP, va_K.moved hW.alike hK, hD.weaken (fun _ _ _ _ => trivial)⟩⟩ rfl hn hl.1 hst (lv_room hrm) hdg hroom) hS (fun q _ h => hFc q h) hFc (fun r u t H1 locs1 ht hvm hp hB hz1 hk1 hS1 => ?_)
  obtain ⟨hP1, -, hD1⟩ := hB
  rw [ht] at hP1
  exact kk r u hp H1 locs1 ls hP1 (hD1.weaken (fun _ q _ h => hFc q.1 h)) hS1 hl
end HXR
end
section
set_option maxRecDepth 100000
/-- where an object lies: the tables' numbers, its address, its arrays' addresses and classes by field number -/
abbrev hx_G : Type := va_G × Nat × (Nat → Nat) × (Nat → ClassId)
abbrev hg_h (G : hx_G) : Nat := G.2.1
abbrev hg_a (G : hx_G) (k : Nat) : Nat := G.2.2.1 k
abbrev hg_c (G : hx_G) (k : Nat) : ClassId := G.2.2.2 k
def wl1 (G : hx_G) (σ : hs_S) : va_W := [(hg_h G, .inr (0, [.int (nI (σ 0 0)), .ref (hg_a G 1), .ref (hg_a G 2), .ref (hg_a G 3), .ref (hg_a G 4), .int (nI (σ 5 0)), .ref (hg_a G 6), .int (nI (σ 7 0)), .int (nI (σ 8 0)), .ref (hg_a G 9), .ref (hg_a G 10), .int (nI (σ 11 0)), .ref (hg_a G 12), .ref (hg_a G 13), .ref (hg_a G 14), .int (nI (σ 15 0)), .ref (hg_a G 16), .ref (hg_a G 17)])), (hg_a G 1, .inl (hg_c G 1, 8, .inl (fun j => nI (σ 1 j)))), (hg_a G 2, .inl (hg_c G 2, 64, .inl (fun j => nI (σ 2 j)))), (hg_a G 3, .inl (hg_c G 3, 64, .inl (fun j => nI (σ 3 j)))), (hg_a G 4, .inl (hg_c G 4, 192, .inl (fun j => nI (σ 4 j)))), (hg_a G 6, .inl (hg_c G 6, 8, .inl (fun j => nI (σ 6 j)))), (hg_a G 9, .inl (hg_c G 9, 8, .inr (.inl (fun j => lN (σ 9 j))))), (hg_a G 10, .inl (hg_c G 10, 64, .inl (fun j => nI (σ 10 j)))), (hg_a G 12, .inl (hg_c G 12, 64, .inl (fun j => nI (σ 12 j)))), (hg_a G 13, .inl (hg_c G 13, 64, .inl (fun j => nI (σ 13 j)))), (hg_a G 14, .inl (hg_c G 14, 64, .inl (fun j => nI (σ 14 j)))), (hg_a G 16, .inl (hg_c G 16, 64, .inl (fun j => nI (σ 16 j)))), (hg_a G 17, .inl (hg_c G 17, 192, .inl (fun j => nI (σ 17 j))))]
def tys1 (G : hx_G) : List (ClassId × FieldType) := [(hg_c G 1, .int), (hg_c G 2, .boolean), (hg_c G 3, .int), (hg_c G 4, .int), (hg_c G 6, .int), (hg_c G 9, .long), (hg_c G 10, .int), (hg_c G 12, .int), (hg_c G 13, .int), (hg_c G 14, .int), (hg_c G 16, .int), (hg_c G 17, .int)]
abbrev V1 (G : hx_G) : hx_V hs_S := (G.1, wl1 G, tys1 G)
def wl2 (G : hx_G) (σ : hs_S) : va_W := [(hg_h G, .inr (1, [.ref (hg_a G 0), .ref (hg_a G 1), .ref (hg_a G 2), .ref (hg_a G 3)])), (hg_a G 0, .inl (hg_c G 0, 8, .inl (fun j => nI (σ 0 j)))), (hg_a G 1, .inl (hg_c G 1, 72, .inl (fun j => nI (σ 1 j)))), (hg_a G 2, .inl (hg_c G 2, 24, .inl (fun j => nI (σ 2 j)))), (hg_a G 3, .inl (hg_c G 3, 24, .inl (fun j => nI (σ 3 j))))]
def tys2 (G : hx_G) : List (ClassId × FieldType) := [(hg_c G 0, .int), (hg_c G 1, .int), (hg_c G 2, .int), (hg_c G 3, .int)]
abbrev V2 (G : hx_G) : hx_V hs_S := (G.1, wl2 G, tys2 G)
abbrev mX1_make : hx_M := (cX1_make, 5, (some .int), RX1, { frames := 8, cells := 0, slots := 0, locals := 179 })
abbrev mX1_badRoot : hx_M := (cX1_badRoot, 1, (some .boolean), RX1, { frames := 0, cells := 0, slots := 0, locals := 0 })
abbrev mX1_walkFromRoots : hx_M := (cX1_walkFromRoots, 2, none, RX1, { frames := 2, cells := 0, slots := 0, locals := 45 })
abbrev mX1_startWalk : hx_M := (cX1_startWalk, 2, none, RX1, { frames := 0, cells := 0, slots := 0, locals := 0 })
abbrev mX1_visit : hx_M := (cX1_visit, 3, none, RX1, { frames := 0, cells := 0, slots := 0, locals := 0 })
abbrev mX1_finishWalk : hx_M := (cX1_finishWalk, 4, none, RX1, { frames := 1, cells := 0, slots := 0, locals := 22 })
abbrev mX1_newSlot : hx_M := (cX1_newSlot, 2, (some .int), RX1, { frames := 7, cells := 0, slots := 0, locals := 158 })
abbrev mX1_moveWindow : hx_M := (cX1_moveWindow, 2, none, RX1, { frames := 6, cells := 0, slots := 0, locals := 137 })
abbrev mX1_collectBlock : hx_M := (cX1_collectBlock, 5, none, RX1, { frames := 5, cells := 0, slots := 0, locals := 113 })
abbrev mX1_within : hx_M := (cX1_within, 3, (some .boolean), RX1, { frames := 0, cells := 0, slots := 0, locals := 0 })
abbrev mX1_evacuate : hx_M := (cX1_evacuate, 5, (some .int), RX1, { frames := 3, cells := 0, slots := 0, locals := 65 })
abbrev mX1_bump : hx_M := (cX1_bump, 2, (some .int), RX1, { frames := 2, cells := 0, slots := 0, locals := 44 })
abbrev mX1_openBlock : hx_M := (cX1_openBlock, 3, none, RX1, { frames := 1, cells := 0, slots := 0, locals := 22 })
abbrev mX1_inUse : hx_M := (cX1_inUse, 3, (some .boolean), RX1, { frames := 0, cells := 0, slots := 0, locals := 0 })
abbrev mX1_youngest : hx_M := (cX1_youngest, 1, (some .int), RX1, { frames := 0, cells := 0, slots := 0, locals := 0 })
abbrev mX1_fixFields : hx_M := (cX1_fixFields, 5, none, RX1, { frames := 4, cells := 0, slots := 0, locals := 89 })
abbrev mX1_remember : hx_M := (cX1_remember, 3, none, RX1, { frames := 0, cells := 0, slots := 0, locals := 0 })
abbrev mX1_freeBlock : hx_M := (cX1_freeBlock, 6, none, RX1, { frames := 0, cells := 0, slots := 0, locals := 0 })
abbrev mX1_collectAll : hx_M := (cX1_collectAll, 3, none, RX1, { frames := 3, cells := 0, slots := 0, locals := 66 })
abbrev mX1_moved : hx_M := (cX1_moved, 2, (some .int), RX1, { frames := 0, cells := 0, slots := 0, locals := 0 })
abbrev mX1_layOut : hx_M := (cX1_layOut, 3, none, RX1, { frames := 0, cells := 0, slots := 0, locals := 0 })
abbrev mX1_copyRoot : hx_M := (cX1_copyRoot, 3, (some .int), RX1, { frames := 1, cells := 0, slots := 0, locals := 20 })
abbrev mX1_drop : hx_M := (cX1_drop, 2, (some .int), RX1, { frames := 1, cells := 0, slots := 0, locals := 20 })
abbrev mX1_load : hx_M := (cX1_load, 4, (some .int), RX1, { frames := 1, cells := 0, slots := 0, locals := 20 })
abbrev mX1_badField : hx_M := (cX1_badField, 1, (some .boolean), RX1, { frames := 0, cells := 0, slots := 0, locals := 0 })
abbrev mX1_store : hx_M := (cX1_store, 5, (some .int), RX1, { frames := 1, cells := 0, slots := 0, locals := 22 })
abbrev mX1_setPayload : hx_M := (cX1_setPayload, 3, (some .int), RX1, { frames := 1, cells := 0, slots := 0, locals := 20 })
abbrev mX1_collect : hx_M := (cX1_collect, 2, none, RX1, { frames := 7, cells := 0, slots := 0, locals := 158 })
abbrev mX1_payload : hx_M := (cX1_payload, 2, (some .int), RX1, { frames := 2, cells := 0, slots := 0, locals := 41 })
abbrev mX1_empty : hx_M := (cX1_empty, 2, (some .boolean), RX1, { frames := 1, cells := 0, slots := 0, locals := 20 })
abbrev mX1_held : hx_M := (cX1_held, 2, (some .boolean), RX1, { frames := 2, cells := 0, slots := 0, locals := 41 })
abbrev mX1_same : hx_M := (cX1_same, 3, (some .boolean), RX1, { frames := 2, cells := 0, slots := 0, locals := 41 })
abbrev mX1_reachable : hx_M := (cX1_reachable, 1, (some .int), RX1, { frames := 3, cells := 0, slots := 0, locals := 66 })
abbrev mX1_reachableFrom : hx_M := (cX1_reachableFrom, 2, (some .int), RX1, { frames := 2, cells := 0, slots := 0, locals := 45 })
abbrev mX1_distance : hx_M := (cX1_distance, 4, (some .int), RX1, { frames := 2, cells := 0, slots := 0, locals := 45 })
abbrev mX1_sum : hx_M := (cX1_sum, 3, (some .int), RX1, { frames := 3, cells := 0, slots := 0, locals := 66 })
abbrev mX2_make : hx_M := (cX2_make, 5, (some .int), RX2, { frames := 2, cells := 0, slots := 0, locals := 45 })
abbrev mX2_isRoot : hx_M := (cX2_isRoot, 2, (some .boolean), RX2, { frames := 0, cells := 0, slots := 0, locals := 0 })
abbrev mX2_reachable : hx_M := (cX2_reachable, 1, (some .int), RX2, { frames := 1, cells := 0, slots := 0, locals := 25 })
abbrev mX2_spread : hx_M := (cX2_spread, 6, none, RX2, { frames := 0, cells := 0, slots := 0, locals := 0 })
abbrev mX2_found : hx_M := (cX2_found, 3, (some .int), RX2, { frames := 0, cells := 0, slots := 0, locals := 0 })
abbrev mX2_copyRoot : hx_M := (cX2_copyRoot, 3, (some .int), RX2, { frames := 1, cells := 0, slots := 0, locals := 21 })
abbrev mX2_drop : hx_M := (cX2_drop, 2, (some .int), RX2, { frames := 1, cells := 0, slots := 0, locals := 21 })
abbrev mX2_load : hx_M := (cX2_load, 5, (some .int), RX2, { frames := 2, cells := 0, slots := 0, locals := 44 })
abbrev mX2_refusal : hx_M := (cX2_refusal, 4, (some .int), RX2, { frames := 1, cells := 0, slots := 0, locals := 21 })
abbrev mX2_store : hx_M := (cX2_store, 5, (some .int), RX2, { frames := 2, cells := 0, slots := 0, locals := 44 })
abbrev mX2_setPayload : hx_M := (cX2_setPayload, 4, (some .int), RX2, { frames := 2, cells := 0, slots := 0, locals := 44 })
abbrev mX2_collect : hx_M := (cX2_collect, 1, none, RX2, { frames := 0, cells := 0, slots := 0, locals := 0 })
abbrev mX2_payload : hx_M := (cX2_payload, 3, (some .int), RX2, { frames := 2, cells := 0, slots := 0, locals := 42 })
abbrev mX2_objectOf : hx_M := (cX2_objectOf, 2, (some .int), RX2, { frames := 1, cells := 0, slots := 0, locals := 21 })
abbrev mX2_held : hx_M := (cX2_held, 2, (some .boolean), RX2, { frames := 2, cells := 0, slots := 0, locals := 42 })
abbrev mX2_same : hx_M := (cX2_same, 3, (some .boolean), RX2, { frames := 3, cells := 0, slots := 0, locals := 63 })
abbrev mX2_reachableFrom : hx_M := (cX2_reachableFrom, 2, (some .int), RX2, { frames := 3, cells := 0, slots := 0, locals := 63 })
abbrev mX2_distance : hx_M := (cX2_distance, 3, (some .int), RX2, { frames := 3, cells := 0, slots := 0, locals := 63 })
abbrev mX2_sum : hx_M := (cX2_sum, 3, (some .int), RX2, { frames := 1, cells := 0, slots := 0, locals := 25 })
/-- contracts with an answer and a picture behind it -/
def hx_cI {S : Type} (l : Launch) (y : MethodName) (M : hx_M) (V : hx_V S) (σ : S) (av : List Value) (v : Nat) (τ : S) : Prop := hx_CI l y M V σ av (fun r σ' => r = nI v ∧ σ' = τ)
def hx_cV {S : Type} (l : Launch) (y : MethodName) (M : hx_M) (V : hx_V S) (σ : S) (av : List Value) (τ : S) : Prop := hx_CV l y M V σ av (fun σ' => σ' = τ)
section HXW
variable {X : hx_X} {M : hx_M} {G : hx_G} {σ : hs_S} {pc : Nat} {lv : List (Nat × Value)} {st rest : List Value}
theorem h1_g1 (F : hx_F X M (V1 G)) (hM : M.2.2.2.1 = RX1) (hdg : decode M.1 pc = .ok (.getfield 7, 3)) (kk : hx_W X M (V1 G) σ (pc + 3) lv (.ref (hg_a G 1) :: st)) : hx_W X M (V1 G) σ pc lv (.ref (hg_h G) :: st) :=
  hx_get (ref := RX1) F in_X1 0 rfl rfl 1 (by decide) (by rw [hM]; exact q37) rfl rfl hdg kk
theorem h1_g2 (F : hx_F X M (V1 G)) (hM : M.2.2.2.1 = RX1) (hdg : decode M.1 pc = .ok (.getfield 13, 3)) (kk : hx_W X M (V1 G) σ (pc + 3) lv (.ref (hg_a G 2) :: st)) : hx_W X M (V1 G) σ pc lv (.ref (hg_h G) :: st) :=
  hx_get (ref := RX1) F in_X1 0 rfl rfl 2 (by decide) (by rw [hM]; exact q38) rfl rfl hdg kk
theorem h1_g3 (F : hx_F X M (V1 G)) (hM : M.2.2.2.1 = RX1) (hdg : decode M.1 pc = .ok (.getfield 17, 3)) (kk : hx_W X M (V1 G) σ (pc + 3) lv (.ref (hg_a G 3) :: st)) : hx_W X M (V1 G) σ pc lv (.ref (hg_h G) :: st) :=
  hx_get (ref := RX1) F in_X1 0 rfl rfl 3 (by decide) (by rw [hM]; exact q39) rfl rfl hdg kk
theorem h1_g4 (F : hx_F X M (V1 G)) (hM : M.2.2.2.1 = RX1) (hdg : decode M.1 pc = .ok (.getfield 20, 3)) (kk : hx_W X M (V1 G) σ (pc + 3) lv (.ref (hg_a G 4) :: st)) : hx_W X M (V1 G) σ pc lv (.ref (hg_h G) :: st) :=
  hx_get (ref := RX1) F in_X1 0 rfl rfl 4 (by decide) (by rw [hM]; exact q40) rfl rfl hdg kk
theorem h1_g6 (F : hx_F X M (V1 G)) (hM : M.2.2.2.1 = RX1) (hdg : decode M.1 pc = .ok (.getfield 23, 3)) (kk : hx_W X M (V1 G) σ (pc + 3) lv (.ref (hg_a G 6) :: st)) : hx_W X M (V1 G) σ pc lv (.ref (hg_h G) :: st) :=
  hx_get (ref := RX1) F in_X1 0 rfl rfl 6 (by decide) (by rw [hM]; exact q42) rfl rfl hdg kk
theorem h1_g9 (F : hx_F X M (V1 G)) (hM : M.2.2.2.1 = RX1) (hdg : decode M.1 pc = .ok (.getfield 26, 3)) (kk : hx_W X M (V1 G) σ (pc + 3) lv (.ref (hg_a G 9) :: st)) : hx_W X M (V1 G) σ pc lv (.ref (hg_h G) :: st) :=
  hx_get (ref := RX1) F in_X1 0 rfl rfl 9 (by decide) (by rw [hM]; exact q45) rfl rfl hdg kk
theorem h1_g10 (F : hx_F X M (V1 G)) (hM : M.2.2.2.1 = RX1) (hdg : decode M.1 pc = .ok (.getfield 30, 3)) (kk : hx_W X M (V1 G) σ (pc + 3) lv (.ref (hg_a G 10) :: st)) : hx_W X M (V1 G) σ pc lv (.ref (hg_h G) :: st) :=
  hx_get (ref := RX1) F in_X1 0 rfl rfl 10 (by decide) (by rw [hM]; exact q46) rfl rfl hdg kk
theorem h1_g12 (F : hx_F X M (V1 G)) (hM : M.2.2.2.1 = RX1) (hdg : decode M.1 pc = .ok (.getfield 33, 3)) (kk : hx_W X M (V1 G) σ (pc + 3) lv (.ref (hg_a G 12) :: st)) : hx_W X M (V1 G) σ pc lv (.ref (hg_h G) :: st) :=
  hx_get (ref := RX1) F in_X1 0 rfl rfl 12 (by decide) (by rw [hM]; exact q48) rfl rfl hdg kk
theorem h1_g13 (F : hx_F X M (V1 G)) (hM : M.2.2.2.1 = RX1) (hdg : decode M.1 pc = .ok (.getfield 36, 3)) (kk : hx_W X M (V1 G) σ (pc + 3) lv (.ref (hg_a G 13) :: st)) : hx_W X M (V1 G) σ pc lv (.ref (hg_h G) :: st) :=
  hx_get (ref := RX1) F in_X1 0 rfl rfl 13 (by decide) (by rw [hM]; exact q49) rfl rfl hdg kk
theorem h1_g14 (F : hx_F X M (V1 G)) (hM : M.2.2.2.1 = RX1) (hdg : decode M.1 pc = .ok (.getfield 39, 3)) (kk : hx_W X M (V1 G) σ (pc + 3) lv (.ref (hg_a G 14) :: st)) : hx_W X M (V1 G) σ pc lv (.ref (hg_h G) :: st) :=
  hx_get (ref := RX1) F in_X1 0 rfl rfl 14 (by decide) (by rw [hM]; exact q50) rfl rfl hdg kk
theorem h1_g16 (F : hx_F X M (V1 G)) (hM : M.2.2.2.1 = RX1) (hdg : decode M.1 pc = .ok (.getfield 42, 3)) (kk : hx_W X M (V1 G) σ (pc + 3) lv (.ref (hg_a G 16) :: st)) : hx_W X M (V1 G) σ pc lv (.ref (hg_h G) :: st) :=
  hx_get (ref := RX1) F in_X1 0 rfl rfl 16 (by decide) (by rw [hM]; exact q52) rfl rfl hdg kk
theorem h1_g17 (F : hx_F X M (V1 G)) (hM : M.2.2.2.1 = RX1) (hdg : decode M.1 pc = .ok (.getfield 45, 3)) (kk : hx_W X M (V1 G) σ (pc + 3) lv (.ref (hg_a G 17) :: st)) : hx_W X M (V1 G) σ pc lv (.ref (hg_h G) :: st) :=
  hx_get (ref := RX1) F in_X1 0 rfl rfl 17 (by decide) (by rw [hM]; exact q53) rfl rfl hdg kk
theorem h1_g0 (F : hx_F X M (V1 G)) (hM : M.2.2.2.1 = RX1) (hdg : decode M.1 pc = .ok (.getfield 48, 3)) (kk : hx_W X M (V1 G) σ (pc + 3) lv (.int (nI (σ 0 0)) :: st)) : hx_W X M (V1 G) σ pc lv (.ref (hg_h G) :: st) :=
  hx_get (ref := RX1) F in_X1 0 rfl rfl 0 (by decide) (by rw [hM]; exact q36) rfl rfl hdg kk
theorem h1_g5 (F : hx_F X M (V1 G)) (hM : M.2.2.2.1 = RX1) (hdg : decode M.1 pc = .ok (.getfield 52, 3)) (kk : hx_W X M (V1 G) σ (pc + 3) lv (.int (nI (σ 5 0)) :: st)) : hx_W X M (V1 G) σ pc lv (.ref (hg_h G) :: st) :=
  hx_get (ref := RX1) F in_X1 0 rfl rfl 5 (by decide) (by rw [hM]; exact q41) rfl rfl hdg kk
theorem h1_p5 (F : hx_F X M (V1 G)) (hM : M.2.2.2.1 = RX1) {v : Nat} (hdg : decode M.1 pc = .ok (.putfield 52, 3)) (kk : hx_W X M (V1 G) (hs_st σ 5 0 v) (pc + 3) lv st) : hx_W X M (V1 G) σ pc lv (.int (nI v) :: .ref (hg_h G) :: st) :=
  hx_put (ref := RX1) F in_X1 tyX1 tyX1_ok nmX1 0 rfl rfl 5 (by decide) (by rw [hM]; exact q41) rfl rfl (ty := .int) (tyX1_ok 5 (by decide)) rfl rfl (Nat.le_of_ble_eq_true rfl) (hs_st σ 5 0 v) rfl hdg kk
theorem h1_g15 (F : hx_F X M (V1 G)) (hM : M.2.2.2.1 = RX1) (hdg : decode M.1 pc = .ok (.getfield 55, 3)) (kk : hx_W X M (V1 G) σ (pc + 3) lv (.int (nI (σ 15 0)) :: st)) : hx_W X M (V1 G) σ pc lv (.ref (hg_h G) :: st) :=
  hx_get (ref := RX1) F in_X1 0 rfl rfl 15 (by decide) (by rw [hM]; exact q51) rfl rfl hdg kk
theorem h1_p15 (F : hx_F X M (V1 G)) (hM : M.2.2.2.1 = RX1) {v : Nat} (hdg : decode M.1 pc = .ok (.putfield 55, 3)) (kk : hx_W X M (V1 G) (hs_st σ 15 0 v) (pc + 3) lv st) : hx_W X M (V1 G) σ pc lv (.int (nI v) :: .ref (hg_h G) :: st) :=
  hx_put (ref := RX1) F in_X1 tyX1 tyX1_ok nmX1 0 rfl rfl 15 (by decide) (by rw [hM]; exact q51) rfl rfl (ty := .int) (tyX1_ok 15 (by decide)) rfl rfl (Nat.le_of_ble_eq_true rfl) (hs_st σ 15 0 v) rfl hdg kk
theorem h1_g8 (F : hx_F X M (V1 G)) (hM : M.2.2.2.1 = RX1) (hdg : decode M.1 pc = .ok (.getfield 72, 3)) (kk : hx_W X M (V1 G) σ (pc + 3) lv (.int (nI (σ 8 0)) :: st)) : hx_W X M (V1 G) σ pc lv (.ref (hg_h G) :: st) :=
  hx_get (ref := RX1) F in_X1 0 rfl rfl 8 (by decide) (by rw [hM]; exact q44) rfl rfl hdg kk
theorem h1_p8 (F : hx_F X M (V1 G)) (hM : M.2.2.2.1 = RX1) {v : Nat} (hdg : decode M.1 pc = .ok (.putfield 72, 3)) (kk : hx_W X M (V1 G) (hs_st σ 8 0 v) (pc + 3) lv st) : hx_W X M (V1 G) σ pc lv (.int (nI v) :: .ref (hg_h G) :: st) :=
  hx_put (ref := RX1) F in_X1 tyX1 tyX1_ok nmX1 0 rfl rfl 8 (by decide) (by rw [hM]; exact q44) rfl rfl (ty := .int) (tyX1_ok 8 (by decide)) rfl rfl (Nat.le_of_ble_eq_true rfl) (hs_st σ 8 0 v) rfl hdg kk
theorem h1_g11 (F : hx_F X M (V1 G)) (hM : M.2.2.2.1 = RX1) (hdg : decode M.1 pc = .ok (.getfield 85, 3)) (kk : hx_W X M (V1 G) σ (pc + 3) lv (.int (nI (σ 11 0)) :: st)) : hx_W X M (V1 G) σ pc lv (.ref (hg_h G) :: st) :=
  hx_get (ref := RX1) F in_X1 0 rfl rfl 11 (by decide) (by rw [hM]; exact q47) rfl rfl hdg kk
theorem h1_p11 (F : hx_F X M (V1 G)) (hM : M.2.2.2.1 = RX1) {v : Nat} (hdg : decode M.1 pc = .ok (.putfield 85, 3)) (kk : hx_W X M (V1 G) (hs_st σ 11 0 v) (pc + 3) lv st) : hx_W X M (V1 G) σ pc lv (.int (nI v) :: .ref (hg_h G) :: st) :=
  hx_put (ref := RX1) F in_X1 tyX1 tyX1_ok nmX1 0 rfl rfl 11 (by decide) (by rw [hM]; exact q47) rfl rfl (ty := .int) (tyX1_ok 11 (by decide)) rfl rfl (Nat.le_of_ble_eq_true rfl) (hs_st σ 11 0 v) rfl hdg kk
theorem h1_g7 (F : hx_F X M (V1 G)) (hM : M.2.2.2.1 = RX1) (hdg : decode M.1 pc = .ok (.getfield 110, 3)) (kk : hx_W X M (V1 G) σ (pc + 3) lv (.int (nI (σ 7 0)) :: st)) : hx_W X M (V1 G) σ pc lv (.ref (hg_h G) :: st) :=
  hx_get (ref := RX1) F in_X1 0 rfl rfl 7 (by decide) (by rw [hM]; exact q43) rfl rfl hdg kk
theorem h1_p7 (F : hx_F X M (V1 G)) (hM : M.2.2.2.1 = RX1) {v : Nat} (hdg : decode M.1 pc = .ok (.putfield 110, 3)) (kk : hx_W X M (V1 G) (hs_st σ 7 0 v) (pc + 3) lv st) : hx_W X M (V1 G) σ pc lv (.int (nI v) :: .ref (hg_h G) :: st) :=
  hx_put (ref := RX1) F in_X1 tyX1 tyX1_ok nmX1 0 rfl rfl 7 (by decide) (by rw [hM]; exact q43) rfl rfl (ty := .int) (tyX1_ok 7 (by decide)) rfl rfl (Nat.le_of_ble_eq_true rfl) (hs_st σ 7 0 v) rfl hdg kk
theorem h1_l1 (F : hx_F X M (V1 G)) {j : Nat} (hj : j < 8) (hdg : decode M.1 pc = .ok (.iaload, 1)) (kk : hx_W X M (V1 G) σ (pc + 1) lv (.int (nI (σ 1 j)) :: st)) : hx_W X M (V1 G) σ pc lv (.int (nI j) :: .ref (hg_a G 1) :: st) :=
  hx_iald F 1 0 (g := σ 1) rfl rfl (by decide) hj hdg kk
theorem h1_s1 (F : hx_F X M (V1 G)) {j v : Nat} (hj : j < 8) (hdg : decode M.1 pc = .ok (.iastore, 1)) (kk : hx_W X M (V1 G) (hs_st σ 1 j v) (pc + 1) lv st) : hx_W X M (V1 G) σ pc lv (.int (nI v) :: .int (nI j) :: .ref (hg_a G 1) :: st) :=
  hx_iast F 1 0 (g := σ 1) rfl rfl (by decide) hj (hs_st σ 1 j v) rfl hdg kk
theorem h1_l2 (F : hx_F X M (V1 G)) {j : Nat} (hj : j < 64) (hdg : decode M.1 pc = .ok (.baload, 1)) (kk : hx_W X M (V1 G) σ (pc + 1) lv (.int (nI (σ 2 j)) :: st)) : hx_W X M (V1 G) σ pc lv (.int (nI j) :: .ref (hg_a G 2) :: st) :=
  hx_zald F 2 1 (g := σ 2) rfl rfl (by decide) hj hdg kk
theorem h1_s2 (F : hx_F X M (V1 G)) {j v : Nat} (hj : j < 64) (hv : v < 2) (hdg : decode M.1 pc = .ok (.bastore, 1)) (kk : hx_W X M (V1 G) (hs_st σ 2 j v) (pc + 1) lv st) : hx_W X M (V1 G) σ pc lv (.int (nI v) :: .int (nI j) :: .ref (hg_a G 2) :: st) :=
  hx_zast F 2 1 (g := σ 2) rfl rfl (by decide) hj hv (hs_st σ 2 j v) rfl hdg kk
theorem h1_l3 (F : hx_F X M (V1 G)) {j : Nat} (hj : j < 64) (hdg : decode M.1 pc = .ok (.iaload, 1)) (kk : hx_W X M (V1 G) σ (pc + 1) lv (.int (nI (σ 3 j)) :: st)) : hx_W X M (V1 G) σ pc lv (.int (nI j) :: .ref (hg_a G 3) :: st) :=
  hx_iald F 3 2 (g := σ 3) rfl rfl (by decide) hj hdg kk
theorem h1_s3 (F : hx_F X M (V1 G)) {j v : Nat} (hj : j < 64) (hdg : decode M.1 pc = .ok (.iastore, 1)) (kk : hx_W X M (V1 G) (hs_st σ 3 j v) (pc + 1) lv st) : hx_W X M (V1 G) σ pc lv (.int (nI v) :: .int (nI j) :: .ref (hg_a G 3) :: st) :=
  hx_iast F 3 2 (g := σ 3) rfl rfl (by decide) hj (hs_st σ 3 j v) rfl hdg kk
theorem h1_l4 (F : hx_F X M (V1 G)) {j : Nat} (hj : j < 192) (hdg : decode M.1 pc = .ok (.iaload, 1)) (kk : hx_W X M (V1 G) σ (pc + 1) lv (.int (nI (σ 4 j)) :: st)) : hx_W X M (V1 G) σ pc lv (.int (nI j) :: .ref (hg_a G 4) :: st) :=
  hx_iald F 4 3 (g := σ 4) rfl rfl (by decide) hj hdg kk
theorem h1_s4 (F : hx_F X M (V1 G)) {j v : Nat} (hj : j < 192) (hdg : decode M.1 pc = .ok (.iastore, 1)) (kk : hx_W X M (V1 G) (hs_st σ 4 j v) (pc + 1) lv st) : hx_W X M (V1 G) σ pc lv (.int (nI v) :: .int (nI j) :: .ref (hg_a G 4) :: st) :=
  hx_iast F 4 3 (g := σ 4) rfl rfl (by decide) hj (hs_st σ 4 j v) rfl hdg kk
theorem h1_l6 (F : hx_F X M (V1 G)) {j : Nat} (hj : j < 8) (hdg : decode M.1 pc = .ok (.iaload, 1)) (kk : hx_W X M (V1 G) σ (pc + 1) lv (.int (nI (σ 6 j)) :: st)) : hx_W X M (V1 G) σ pc lv (.int (nI j) :: .ref (hg_a G 6) :: st) :=
  hx_iald F 5 4 (g := σ 6) rfl rfl (by decide) hj hdg kk
theorem h1_s6 (F : hx_F X M (V1 G)) {j v : Nat} (hj : j < 8) (hdg : decode M.1 pc = .ok (.iastore, 1)) (kk : hx_W X M (V1 G) (hs_st σ 6 j v) (pc + 1) lv st) : hx_W X M (V1 G) σ pc lv (.int (nI v) :: .int (nI j) :: .ref (hg_a G 6) :: st) :=
  hx_iast F 5 4 (g := σ 6) rfl rfl (by decide) hj (hs_st σ 6 j v) rfl hdg kk
theorem h1_l9 (F : hx_F X M (V1 G)) {j : Nat} (hj : j < 8) (hdg : decode M.1 pc = .ok (.laload, 1)) (kk : hx_W X M (V1 G) σ (pc + 1) lv (.long (lN (σ 9 j)) :: st)) : hx_W X M (V1 G) σ pc lv (.int (nI j) :: .ref (hg_a G 9) :: st) :=
  hx_lald F 6 5 (g := σ 9) rfl rfl (by decide) hj hdg kk
theorem h1_s9 (F : hx_F X M (V1 G)) {j v : Nat} (hj : j < 8) (hdg : decode M.1 pc = .ok (.lastore, 1)) (kk : hx_W X M (V1 G) (hs_st σ 9 j v) (pc + 1) lv st) : hx_W X M (V1 G) σ pc lv (.long (lN v) :: .int (nI j) :: .ref (hg_a G 9) :: st) :=
  hx_last F 6 5 (g := σ 9) rfl rfl (by decide) hj (hs_st σ 9 j v) rfl hdg kk
theorem h1_l10 (F : hx_F X M (V1 G)) {j : Nat} (hj : j < 64) (hdg : decode M.1 pc = .ok (.iaload, 1)) (kk : hx_W X M (V1 G) σ (pc + 1) lv (.int (nI (σ 10 j)) :: st)) : hx_W X M (V1 G) σ pc lv (.int (nI j) :: .ref (hg_a G 10) :: st) :=
  hx_iald F 7 6 (g := σ 10) rfl rfl (by decide) hj hdg kk
theorem h1_s10 (F : hx_F X M (V1 G)) {j v : Nat} (hj : j < 64) (hdg : decode M.1 pc = .ok (.iastore, 1)) (kk : hx_W X M (V1 G) (hs_st σ 10 j v) (pc + 1) lv st) : hx_W X M (V1 G) σ pc lv (.int (nI v) :: .int (nI j) :: .ref (hg_a G 10) :: st) :=
  hx_iast F 7 6 (g := σ 10) rfl rfl (by decide) hj (hs_st σ 10 j v) rfl hdg kk
theorem h1_l12 (F : hx_F X M (V1 G)) {j : Nat} (hj : j < 64) (hdg : decode M.1 pc = .ok (.iaload, 1)) (kk : hx_W X M (V1 G) σ (pc + 1) lv (.int (nI (σ 12 j)) :: st)) : hx_W X M (V1 G) σ pc lv (.int (nI j) :: .ref (hg_a G 12) :: st) :=
  hx_iald F 8 7 (g := σ 12) rfl rfl (by decide) hj hdg kk
theorem h1_s12 (F : hx_F X M (V1 G)) {j v : Nat} (hj : j < 64) (hdg : decode M.1 pc = .ok (.iastore, 1)) (kk : hx_W X M (V1 G) (hs_st σ 12 j v) (pc + 1) lv st) : hx_W X M (V1 G) σ pc lv (.int (nI v) :: .int (nI j) :: .ref (hg_a G 12) :: st) :=
  hx_iast F 8 7 (g := σ 12) rfl rfl (by decide) hj (hs_st σ 12 j v) rfl hdg kk
theorem h1_l13 (F : hx_F X M (V1 G)) {j : Nat} (hj : j < 64) (hdg : decode M.1 pc = .ok (.iaload, 1)) (kk : hx_W X M (V1 G) σ (pc + 1) lv (.int (nI (σ 13 j)) :: st)) : hx_W X M (V1 G) σ pc lv (.int (nI j) :: .ref (hg_a G 13) :: st) :=
  hx_iald F 9 8 (g := σ 13) rfl rfl (by decide) hj hdg kk
theorem h1_s13 (F : hx_F X M (V1 G)) {j v : Nat} (hj : j < 64) (hdg : decode M.1 pc = .ok (.iastore, 1)) (kk : hx_W X M (V1 G) (hs_st σ 13 j v) (pc + 1) lv st) : hx_W X M (V1 G) σ pc lv (.int (nI v) :: .int (nI j) :: .ref (hg_a G 13) :: st) :=
  hx_iast F 9 8 (g := σ 13) rfl rfl (by decide) hj (hs_st σ 13 j v) rfl hdg kk
theorem h1_l14 (F : hx_F X M (V1 G)) {j : Nat} (hj : j < 64) (hdg : decode M.1 pc = .ok (.iaload, 1)) (kk : hx_W X M (V1 G) σ (pc + 1) lv (.int (nI (σ 14 j)) :: st)) : hx_W X M (V1 G) σ pc lv (.int (nI j) :: .ref (hg_a G 14) :: st) :=
  hx_iald F 10 9 (g := σ 14) rfl rfl (by decide) hj hdg kk
theorem h1_s14 (F : hx_F X M (V1 G)) {j v : Nat} (hj : j < 64) (hdg : decode M.1 pc = .ok (.iastore, 1)) (kk : hx_W X M (V1 G) (hs_st σ 14 j v) (pc + 1) lv st) : hx_W X M (V1 G) σ pc lv (.int (nI v) :: .int (nI j) :: .ref (hg_a G 14) :: st) :=
  hx_iast F 10 9 (g := σ 14) rfl rfl (by decide) hj (hs_st σ 14 j v) rfl hdg kk
theorem h1_l16 (F : hx_F X M (V1 G)) {j : Nat} (hj : j < 64) (hdg : decode M.1 pc = .ok (.iaload, 1)) (kk : hx_W X M (V1 G) σ (pc + 1) lv (.int (nI (σ 16 j)) :: st)) : hx_W X M (V1 G) σ pc lv (.int (nI j) :: .ref (hg_a G 16) :: st) :=
  hx_iald F 11 10 (g := σ 16) rfl rfl (by decide) hj hdg kk
theorem h1_s16 (F : hx_F X M (V1 G)) {j v : Nat} (hj : j < 64) (hdg : decode M.1 pc = .ok (.iastore, 1)) (kk : hx_W X M (V1 G) (hs_st σ 16 j v) (pc + 1) lv st) : hx_W X M (V1 G) σ pc lv (.int (nI v) :: .int (nI j) :: .ref (hg_a G 16) :: st) :=
  hx_iast F 11 10 (g := σ 16) rfl rfl (by decide) hj (hs_st σ 16 j v) rfl hdg kk
theorem h1_l17 (F : hx_F X M (V1 G)) {j : Nat} (hj : j < 192) (hdg : decode M.1 pc = .ok (.iaload, 1)) (kk : hx_W X M (V1 G) σ (pc + 1) lv (.int (nI (σ 17 j)) :: st)) : hx_W X M (V1 G) σ pc lv (.int (nI j) :: .ref (hg_a G 17) :: st) :=
  hx_iald F 12 11 (g := σ 17) rfl rfl (by decide) hj hdg kk
theorem h1_s17 (F : hx_F X M (V1 G)) {j v : Nat} (hj : j < 192) (hdg : decode M.1 pc = .ok (.iastore, 1)) (kk : hx_W X M (V1 G) (hs_st σ 17 j v) (pc + 1) lv st) : hx_W X M (V1 G) σ pc lv (.int (nI v) :: .int (nI j) :: .ref (hg_a G 17) :: st) :=
  hx_iast F 12 11 (g := σ 17) rfl rfl (by decide) hj (hs_st σ 17 j v) rfl hdg kk
theorem hc_X1_visit (F : hx_F X M (V1 G)) (hM : M.2.2.2.1 = RX1) (hR : 0 + 1 ≤ M.2.2.2.2.frames ∧ 8 + (3 + 11) + 0 ≤ M.2.2.2.2.locals) {a0 a1 : Int32} {τ : hs_S} (hC : hx_cV (hx_l X) yX1_visit mX1_visit (V1 G) σ [.ref (hg_h G), .int a0, .int a1] τ) (hrm : (rest.map fun v => v.category).sum ≤ 8) (hdg : decode M.1 pc = .ok (.invokevirtual 58, 3)) (kk : hx_W X M (V1 G) τ (pc + 3) lv (rest)) : hx_W X M (V1 G) σ pc lv (.int a1 :: .int a0 :: .ref (hg_h G) :: rest) :=
  hx_callV F hC (by rw [hM]; exact cwV 2 F.2.2.2.2.1 (lw_V q109 q111 qs2 q26 q112) rfl rfl rfl (by decide +kernel) hR) (ci := 0) rfl (q0 := 0) rfl rfl rfl hrm hdg (fun σ' e => by subst e; exact kk)
theorem hc_X1_startWalk (F : hx_F X M (V1 G)) (hM : M.2.2.2.1 = RX1) (hR : 0 + 1 ≤ M.2.2.2.2.frames ∧ 8 + (2 + 11) + 0 ≤ M.2.2.2.2.locals) {τ : hs_S} (hC : hx_cV (hx_l X) yX1_startWalk mX1_startWalk (V1 G) σ [.ref (hg_h G)] τ) (hrm : (rest.map fun v => v.category).sum ≤ 8) (hdg : decode M.1 pc = .ok (.invokevirtual 62, 3)) (kk : hx_W X M (V1 G) τ (pc + 3) lv (rest)) : hx_W X M (V1 G) σ pc lv (.ref (hg_h G) :: rest) :=
  hx_callV F hC (by rw [hM]; exact cwV 0 F.2.2.2.2.1 (lw_V q105 q107 qs1 q26 q108) rfl rfl rfl (by decide +kernel) hR) (ci := 0) rfl (q0 := 0) rfl rfl rfl hrm hdg (fun σ' e => by subst e; exact kk)
theorem hc_X1_finishWalk (F : hx_F X M (V1 G)) (hM : M.2.2.2.1 = RX1) (hR : 1 + 1 ≤ M.2.2.2.2.frames ∧ 8 + (4 + 11) + 22 ≤ M.2.2.2.2.locals) {τ : hs_S} (hC : hx_cV (hx_l X) yX1_finishWalk mX1_finishWalk (V1 G) σ [.ref (hg_h G)] τ) (hrm : (rest.map fun v => v.category).sum ≤ 8) (hdg : decode M.1 pc = .ok (.invokevirtual 65, 3)) (kk : hx_W X M (V1 G) τ (pc + 3) lv (rest)) : hx_W X M (V1 G) σ pc lv (.ref (hg_h G) :: rest) :=
  hx_callV F hC (by rw [hM]; exact cwV 0 F.2.2.2.2.1 (lw_V q113 q115 qs3 q26 q116) rfl rfl rfl (by decide +kernel) hR) (ci := 0) rfl (q0 := 0) rfl rfl rfl hrm hdg (fun σ' e => by subst e; exact kk)
theorem hc_X1_inUse (F : hx_F X M (V1 G)) (hM : M.2.2.2.1 = RX1) (hR : 0 + 1 ≤ M.2.2.2.2.frames ∧ 8 + (3 + 11) + 0 ≤ M.2.2.2.2.locals) {a0 : Int32} {v : Nat} {τ : hs_S} (hC : hx_cI (hx_l X) yX1_inUse mX1_inUse (V1 G) σ [.ref (hg_h G), .int a0] v τ) (hrm : (rest.map fun v => v.category).sum ≤ 8) (hdg : decode M.1 pc = .ok (.invokevirtual 68, 3)) (kk : hx_W X M (V1 G) τ (pc + 3) lv (.int (nI v) :: rest)) : hx_W X M (V1 G) σ pc lv (.int a0 :: .ref (hg_h G) :: rest) :=
  hx_callI F hC (by rw [hM]; exact cwV 1 F.2.2.2.2.1 (lw_V q145 q147 qs11 q26 q148) rfl rfl rfl (by decide +kernel) hR) (ci := 0) rfl (q0 := 0) rfl rfl rfl hrm hdg (fun r σ' e => by obtain ⟨rfl, rfl⟩ := e; exact kk)
theorem hc_X1_openBlock (F : hx_F X M (V1 G)) (hM : M.2.2.2.1 = RX1) (hR : 1 + 1 ≤ M.2.2.2.2.frames ∧ 8 + (3 + 11) + 22 ≤ M.2.2.2.2.locals) {τ : hs_S} (hC : hx_cV (hx_l X) yX1_openBlock mX1_openBlock (V1 G) σ [.ref (hg_h G)] τ) (hrm : (rest.map fun v => v.category).sum ≤ 8) (hdg : decode M.1 pc = .ok (.invokevirtual 75, 3)) (kk : hx_W X M (V1 G) τ (pc + 3) lv (rest)) : hx_W X M (V1 G) σ pc lv (.ref (hg_h G) :: rest) :=
  hx_callV F hC (by rw [hM]; exact cwV 0 F.2.2.2.2.1 (lw_V q141 q143 qs10 q26 q144) rfl rfl rfl (by decide +kernel) hR) (ci := 0) rfl (q0 := 0) rfl rfl rfl hrm hdg (fun σ' e => by subst e; exact kk)
theorem hc_X1_youngest (F : hx_F X M (V1 G)) (hM : M.2.2.2.1 = RX1) (hR : 0 + 1 ≤ M.2.2.2.2.frames ∧ 8 + (1 + 11) + 0 ≤ M.2.2.2.2.locals) {v : Nat} {τ : hs_S} (hC : hx_cI (hx_l X) yX1_youngest mX1_youngest (V1 G) σ [.ref (hg_h G)] v τ) (hrm : (rest.map fun v => v.category).sum ≤ 8) (hdg : decode M.1 pc = .ok (.invokevirtual 78, 3)) (kk : hx_W X M (V1 G) τ (pc + 3) lv (.int (nI v) :: rest)) : hx_W X M (V1 G) σ pc lv (.ref (hg_h G) :: rest) :=
  hx_callI F hC (by rw [hM]; exact cwV 0 F.2.2.2.2.1 (lw_V q149 q151 qs12 q26 q152) rfl rfl rfl (by decide +kernel) hR) (ci := 0) rfl (q0 := 0) rfl rfl rfl hrm hdg (fun r σ' e => by obtain ⟨rfl, rfl⟩ := e; exact kk)
theorem hc_X1_bump (F : hx_F X M (V1 G)) (hM : M.2.2.2.1 = RX1) (hR : 2 + 1 ≤ M.2.2.2.2.frames ∧ 8 + (2 + 11) + 44 ≤ M.2.2.2.2.locals) {v : Nat} {τ : hs_S} (hC : hx_cI (hx_l X) yX1_bump mX1_bump (V1 G) σ [.ref (hg_h G)] v τ) (hrm : (rest.map fun v => v.category).sum ≤ 8) (hdg : decode M.1 pc = .ok (.invokevirtual 82, 3)) (kk : hx_W X M (V1 G) τ (pc + 3) lv (.int (nI v) :: rest)) : hx_W X M (V1 G) σ pc lv (.ref (hg_h G) :: rest) :=
  hx_callI F hC (by rw [hM]; exact cwV 0 F.2.2.2.2.1 (lw_V q137 q139 qs9 q26 q140) rfl rfl rfl (by decide +kernel) hR) (ci := 0) rfl (q0 := 0) rfl rfl rfl hrm hdg (fun r σ' e => by obtain ⟨rfl, rfl⟩ := e; exact kk)
theorem hc_X1_within (F : hx_F X M (V1 G)) (hM : M.2.2.2.1 = RX1) (hR : 0 + 1 ≤ M.2.2.2.2.frames ∧ 8 + (3 + 11) + 0 ≤ M.2.2.2.2.locals) {a0 a1 : Int32} {v : Nat} {τ : hs_S} (hC : hx_cI (hx_l X) yX1_within mX1_within (V1 G) σ [.ref (hg_h G), .int a0, .int a1] v τ) (hrm : (rest.map fun v => v.category).sum ≤ 8) (hdg : decode M.1 pc = .ok (.invokevirtual 88, 3)) (kk : hx_W X M (V1 G) τ (pc + 3) lv (.int (nI v) :: rest)) : hx_W X M (V1 G) σ pc lv (.int a1 :: .int a0 :: .ref (hg_h G) :: rest) :=
  hx_callI F hC (by rw [hM]; exact cwV 2 F.2.2.2.2.1 (lw_V q129 q131 qs7 q26 q132) rfl rfl rfl (by decide +kernel) hR) (ci := 0) rfl (q0 := 0) rfl rfl rfl hrm hdg (fun r σ' e => by obtain ⟨rfl, rfl⟩ := e; exact kk)
theorem hc_X1_evacuate (F : hx_F X M (V1 G)) (hM : M.2.2.2.1 = RX1) (hR : 3 + 1 ≤ M.2.2.2.2.frames ∧ 8 + (5 + 11) + 65 ≤ M.2.2.2.2.locals) {a0 : Int32} {v : Nat} {τ : hs_S} (hC : hx_cI (hx_l X) yX1_evacuate mX1_evacuate (V1 G) σ [.ref (hg_h G), .int a0] v τ) (hrm : (rest.map fun v => v.category).sum ≤ 8) (hdg : decode M.1 pc = .ok (.invokevirtual 92, 3)) (kk : hx_W X M (V1 G) τ (pc + 3) lv (.int (nI v) :: rest)) : hx_W X M (V1 G) σ pc lv (.int a0 :: .ref (hg_h G) :: rest) :=
  hx_callI F hC (by rw [hM]; exact cwV 1 F.2.2.2.2.1 (lw_V q133 q135 qs8 q26 q136) rfl rfl rfl (by decide +kernel) hR) (ci := 0) rfl (q0 := 0) rfl rfl rfl hrm hdg (fun r σ' e => by obtain ⟨rfl, rfl⟩ := e; exact kk)
theorem hc_X1_remember (F : hx_F X M (V1 G)) (hM : M.2.2.2.1 = RX1) (hR : 0 + 1 ≤ M.2.2.2.2.frames ∧ 8 + (3 + 11) + 0 ≤ M.2.2.2.2.locals) {a0 a1 : Int32} {τ : hs_S} (hC : hx_cV (hx_l X) yX1_remember mX1_remember (V1 G) σ [.ref (hg_h G), .int a0, .int a1] τ) (hrm : (rest.map fun v => v.category).sum ≤ 8) (hdg : decode M.1 pc = .ok (.invokevirtual 96, 3)) (kk : hx_W X M (V1 G) τ (pc + 3) lv (rest)) : hx_W X M (V1 G) σ pc lv (.int a1 :: .int a0 :: .ref (hg_h G) :: rest) :=
  hx_callV F hC (by rw [hM]; exact cwV 2 F.2.2.2.2.1 (lw_V q157 q159 qs14 q26 q160) rfl rfl rfl (by decide +kernel) hR) (ci := 0) rfl (q0 := 0) rfl rfl rfl hrm hdg (fun σ' e => by subst e; exact kk)
theorem hc_X1_fixFields (F : hx_F X M (V1 G)) (hM : M.2.2.2.1 = RX1) (hR : 4 + 1 ≤ M.2.2.2.2.frames ∧ 8 + (5 + 11) + 89 ≤ M.2.2.2.2.locals) {a0 a1 : Int32} {τ : hs_S} (hC : hx_cV (hx_l X) yX1_fixFields mX1_fixFields (V1 G) σ [.ref (hg_h G), .int a0, .int a1] τ) (hrm : (rest.map fun v => v.category).sum ≤ 8) (hdg : decode M.1 pc = .ok (.invokevirtual 99, 3)) (kk : hx_W X M (V1 G) τ (pc + 3) lv (rest)) : hx_W X M (V1 G) σ pc lv (.int a1 :: .int a0 :: .ref (hg_h G) :: rest) :=
  hx_callV F hC (by rw [hM]; exact cwV 2 F.2.2.2.2.1 (lw_V q153 q155 qs13 q26 q156) rfl rfl rfl (by decide +kernel) hR) (ci := 0) rfl (q0 := 0) rfl rfl rfl hrm hdg (fun σ' e => by subst e; exact kk)
theorem hc_X1_freeBlock (F : hx_F X M (V1 G)) (hM : M.2.2.2.1 = RX1) (hR : 0 + 1 ≤ M.2.2.2.2.frames ∧ 8 + (6 + 11) + 0 ≤ M.2.2.2.2.locals) {a0 : Int32} {τ : hs_S} (hC : hx_cV (hx_l X) yX1_freeBlock mX1_freeBlock (V1 G) σ [.ref (hg_h G), .int a0] τ) (hrm : (rest.map fun v => v.category).sum ≤ 8) (hdg : decode M.1 pc = .ok (.invokevirtual 102, 3)) (kk : hx_W X M (V1 G) τ (pc + 3) lv (rest)) : hx_W X M (V1 G) σ pc lv (.int a0 :: .ref (hg_h G) :: rest) :=
  hx_callV F hC (by rw [hM]; exact cwV 1 F.2.2.2.2.1 (lw_V q161 q163 qs15 q26 q164) rfl rfl rfl (by decide +kernel) hR) (ci := 0) rfl (q0 := 0) rfl rfl rfl hrm hdg (fun σ' e => by subst e; exact kk)
theorem hc_X1_collectBlock (F : hx_F X M (V1 G)) (hM : M.2.2.2.1 = RX1) (hR : 5 + 1 ≤ M.2.2.2.2.frames ∧ 8 + (5 + 11) + 113 ≤ M.2.2.2.2.locals) {a0 : Int32} {τ : hs_S} (hC : hx_cV (hx_l X) yX1_collectBlock mX1_collectBlock (V1 G) σ [.ref (hg_h G), .int a0] τ) (hrm : (rest.map fun v => v.category).sum ≤ 8) (hdg : decode M.1 pc = .ok (.invokevirtual 113, 3)) (kk : hx_W X M (V1 G) τ (pc + 3) lv (rest)) : hx_W X M (V1 G) σ pc lv (.int a0 :: .ref (hg_h G) :: rest) :=
  hx_callV F hC (by rw [hM]; exact cwV 1 F.2.2.2.2.1 (lw_V q125 q127 qs6 q26 q128) rfl rfl rfl (by decide +kernel) hR) (ci := 0) rfl (q0 := 0) rfl rfl rfl hrm hdg (fun σ' e => by subst e; exact kk)
theorem hc_X1_walkFromRoots (F : hx_F X M (V1 G)) (hM : M.2.2.2.1 = RX1) (hR : 2 + 1 ≤ M.2.2.2.2.frames ∧ 8 + (2 + 11) + 45 ≤ M.2.2.2.2.locals) {τ : hs_S} (hC : hx_cV (hx_l X) yX1_walkFromRoots mX1_walkFromRoots (V1 G) σ [.ref (hg_h G)] τ) (hrm : (rest.map fun v => v.category).sum ≤ 8) (hdg : decode M.1 pc = .ok (.invokevirtual 116, 3)) (kk : hx_W X M (V1 G) τ (pc + 3) lv (rest)) : hx_W X M (V1 G) σ pc lv (.ref (hg_h G) :: rest) :=
  hx_callV F hC (by rw [hM]; exact cwV 0 F.2.2.2.2.1 (lw_V q101 q103 qs0 q26 q104) rfl rfl rfl (by decide +kernel) hR) (ci := 0) rfl (q0 := 0) rfl rfl rfl hrm hdg (fun σ' e => by subst e; exact kk)
theorem hc_X1_moved (F : hx_F X M (V1 G)) (hM : M.2.2.2.1 = RX1) (hR : 0 + 1 ≤ M.2.2.2.2.frames ∧ 8 + (2 + 11) + 0 ≤ M.2.2.2.2.locals) {a0 : Int32} {v : Nat} {τ : hs_S} (hC : hx_cI (hx_l X) yX1_moved mX1_moved (V1 G) σ [.ref (hg_h G), .int a0] v τ) (hrm : (rest.map fun v => v.category).sum ≤ 8) (hdg : decode M.1 pc = .ok (.invokevirtual 119, 3)) (kk : hx_W X M (V1 G) τ (pc + 3) lv (.int (nI v) :: rest)) : hx_W X M (V1 G) σ pc lv (.int a0 :: .ref (hg_h G) :: rest) :=
  hx_callI F hC (by rw [hM]; exact cwV 1 F.2.2.2.2.1 (lw_V q171 q173 qs17 q26 q174) rfl rfl rfl (by decide +kernel) hR) (ci := 0) rfl (q0 := 0) rfl rfl rfl hrm hdg (fun r σ' e => by obtain ⟨rfl, rfl⟩ := e; exact kk)
theorem hc_X1_layOut (F : hx_F X M (V1 G)) (hM : M.2.2.2.1 = RX1) (hR : 0 + 1 ≤ M.2.2.2.2.frames ∧ 8 + (3 + 11) + 0 ≤ M.2.2.2.2.locals) {a0 : Int32} {τ : hs_S} (hC : hx_cV (hx_l X) yX1_layOut mX1_layOut (V1 G) σ [.ref (hg_h G), .int a0] τ) (hrm : (rest.map fun v => v.category).sum ≤ 8) (hdg : decode M.1 pc = .ok (.invokevirtual 122, 3)) (kk : hx_W X M (V1 G) τ (pc + 3) lv (rest)) : hx_W X M (V1 G) σ pc lv (.int a0 :: .ref (hg_h G) :: rest) :=
  hx_callV F hC (by rw [hM]; exact cwV 1 F.2.2.2.2.1 (lw_V q175 q177 qs18 q26 q178) rfl rfl rfl (by decide +kernel) hR) (ci := 0) rfl (q0 := 0) rfl rfl rfl hrm hdg (fun σ' e => by subst e; exact kk)
theorem hc_X1_moveWindow (F : hx_F X M (V1 G)) (hM : M.2.2.2.1 = RX1) (hR : 6 + 1 ≤ M.2.2.2.2.frames ∧ 8 + (2 + 11) + 137 ≤ M.2.2.2.2.locals) {τ : hs_S} (hC : hx_cV (hx_l X) yX1_moveWindow mX1_moveWindow (V1 G) σ [.ref (hg_h G)] τ) (hrm : (rest.map fun v => v.category).sum ≤ 8) (hdg : decode M.1 pc = .ok (.invokevirtual 125, 3)) (kk : hx_W X M (V1 G) τ (pc + 3) lv (rest)) : hx_W X M (V1 G) σ pc lv (.ref (hg_h G) :: rest) :=
  hx_callV F hC (by rw [hM]; exact cwV 0 F.2.2.2.2.1 (lw_V q121 q123 qs5 q26 q124) rfl rfl rfl (by decide +kernel) hR) (ci := 0) rfl (q0 := 0) rfl rfl rfl hrm hdg (fun σ' e => by subst e; exact kk)
theorem hc_X1_collectAll (F : hx_F X M (V1 G)) (hM : M.2.2.2.1 = RX1) (hR : 3 + 1 ≤ M.2.2.2.2.frames ∧ 8 + (3 + 11) + 66 ≤ M.2.2.2.2.locals) {τ : hs_S} (hC : hx_cV (hx_l X) yX1_collectAll mX1_collectAll (V1 G) σ [.ref (hg_h G)] τ) (hrm : (rest.map fun v => v.category).sum ≤ 8) (hdg : decode M.1 pc = .ok (.invokevirtual 128, 3)) (kk : hx_W X M (V1 G) τ (pc + 3) lv (rest)) : hx_W X M (V1 G) σ pc lv (.ref (hg_h G) :: rest) :=
  hx_callV F hC (by rw [hM]; exact cwV 0 F.2.2.2.2.1 (lw_V q167 q169 qs16 q26 q170) rfl rfl rfl (by decide +kernel) hR) (ci := 0) rfl (q0 := 0) rfl rfl rfl hrm hdg (fun σ' e => by subst e; exact kk)
theorem hc_X1_badRoot (F : hx_F X M (V1 G)) (hM : M.2.2.2.1 = RX1) (hR : 0 + 1 ≤ M.2.2.2.2.frames ∧ 8 + (1 + 11) + 0 ≤ M.2.2.2.2.locals) {a0 : Int32} {v : Nat} {τ : hs_S} (hC : hx_cI (hx_l X) yX1_badRoot mX1_badRoot (V1 G) σ [.int a0] v τ) (hrm : (rest.map fun v => v.category).sum ≤ 8) (hdg : decode M.1 pc = .ok (.invokestatic 131, 3)) (kk : hx_W X M (V1 G) τ (pc + 3) lv (.int (nI v) :: rest)) : hx_W X M (V1 G) σ pc lv (.int a0 :: rest) :=
  hx_callS F hC (by rw [hM]; exact va_cwS 1 F.2.2.2.2.1 (lw_S q98 q99 q26 q100) rfl rfl rfl (by decide +kernel) hR) rfl rfl hrm hdg (fun r σ' e => by obtain ⟨rfl, rfl⟩ := e; exact kk)
theorem hc_X1_newSlot (F : hx_F X M (V1 G)) (hM : M.2.2.2.1 = RX1) (hR : 7 + 1 ≤ M.2.2.2.2.frames ∧ 8 + (2 + 11) + 158 ≤ M.2.2.2.2.locals) {v : Nat} {τ : hs_S} (hC : hx_cI (hx_l X) yX1_newSlot mX1_newSlot (V1 G) σ [.ref (hg_h G)] v τ) (hrm : (rest.map fun v => v.category).sum ≤ 8) (hdg : decode M.1 pc = .ok (.invokevirtual 134, 3)) (kk : hx_W X M (V1 G) τ (pc + 3) lv (.int (nI v) :: rest)) : hx_W X M (V1 G) σ pc lv (.ref (hg_h G) :: rest) :=
  hx_callI F hC (by rw [hM]; exact cwV 0 F.2.2.2.2.1 (lw_V q117 q119 qs4 q26 q120) rfl rfl rfl (by decide +kernel) hR) (ci := 0) rfl (q0 := 0) rfl rfl rfl hrm hdg (fun r σ' e => by obtain ⟨rfl, rfl⟩ := e; exact kk)
theorem hc_X1_badField (F : hx_F X M (V1 G)) (hM : M.2.2.2.1 = RX1) (hR : 0 + 1 ≤ M.2.2.2.2.frames ∧ 8 + (1 + 11) + 0 ≤ M.2.2.2.2.locals) {a0 : Int32} {v : Nat} {τ : hs_S} (hC : hx_cI (hx_l X) yX1_badField mX1_badField (V1 G) σ [.int a0] v τ) (hrm : (rest.map fun v => v.category).sum ≤ 8) (hdg : decode M.1 pc = .ok (.invokestatic 137, 3)) (kk : hx_W X M (V1 G) τ (pc + 3) lv (.int (nI v) :: rest)) : hx_W X M (V1 G) σ pc lv (.int a0 :: rest) :=
  hx_callS F hC (by rw [hM]; exact va_cwS 1 F.2.2.2.2.1 (lw_S q191 q192 q26 q193) rfl rfl rfl (by decide +kernel) hR) rfl rfl hrm hdg (fun r σ' e => by obtain ⟨rfl, rfl⟩ := e; exact kk)
theorem hc_X1_empty (F : hx_F X M (V1 G)) (hM : M.2.2.2.1 = RX1) (hR : 1 + 1 ≤ M.2.2.2.2.frames ∧ 8 + (2 + 11) + 20 ≤ M.2.2.2.2.locals) {a0 : Int32} {v : Nat} {τ : hs_S} (hC : hx_cI (hx_l X) yX1_empty mX1_empty (V1 G) σ [.ref (hg_h G), .int a0] v τ) (hrm : (rest.map fun v => v.category).sum ≤ 8) (hdg : decode M.1 pc = .ok (.invokevirtual 140, 3)) (kk : hx_W X M (V1 G) τ (pc + 3) lv (.int (nI v) :: rest)) : hx_W X M (V1 G) σ pc lv (.int a0 :: .ref (hg_h G) :: rest) :=
  hx_callI F hC (by rw [hM]; exact cwV 1 F.2.2.2.2.1 (lw_V q210 q212 qs19 q26 q213) rfl rfl rfl (by decide +kernel) hR) (ci := 0) rfl (q0 := 0) rfl rfl rfl hrm hdg (fun r σ' e => by obtain ⟨rfl, rfl⟩ := e; exact kk)
theorem h2_g0 (F : hx_F X M (V2 G)) (hM : M.2.2.2.1 = RX2) (hdg : decode M.1 pc = .ok (.getfield 7, 3)) (kk : hx_W X M (V2 G) σ (pc + 3) lv (.ref (hg_a G 0) :: st)) : hx_W X M (V2 G) σ pc lv (.ref (hg_h G) :: st) :=
  hx_get (ref := RX2) F in_X2 0 rfl rfl 0 (by decide) (by rw [hM]; exact q247) rfl rfl hdg kk
theorem h2_g1 (F : hx_F X M (V2 G)) (hM : M.2.2.2.1 = RX2) (hdg : decode M.1 pc = .ok (.getfield 13, 3)) (kk : hx_W X M (V2 G) σ (pc + 3) lv (.ref (hg_a G 1) :: st)) : hx_W X M (V2 G) σ pc lv (.ref (hg_h G) :: st) :=
  hx_get (ref := RX2) F in_X2 0 rfl rfl 1 (by decide) (by rw [hM]; exact q248) rfl rfl hdg kk
theorem h2_g2 (F : hx_F X M (V2 G)) (hM : M.2.2.2.1 = RX2) (hdg : decode M.1 pc = .ok (.getfield 16, 3)) (kk : hx_W X M (V2 G) σ (pc + 3) lv (.ref (hg_a G 2) :: st)) : hx_W X M (V2 G) σ pc lv (.ref (hg_h G) :: st) :=
  hx_get (ref := RX2) F in_X2 0 rfl rfl 2 (by decide) (by rw [hM]; exact q249) rfl rfl hdg kk
theorem h2_g3 (F : hx_F X M (V2 G)) (hM : M.2.2.2.1 = RX2) (hdg : decode M.1 pc = .ok (.getfield 19, 3)) (kk : hx_W X M (V2 G) σ (pc + 3) lv (.ref (hg_a G 3) :: st)) : hx_W X M (V2 G) σ pc lv (.ref (hg_h G) :: st) :=
  hx_get (ref := RX2) F in_X2 0 rfl rfl 3 (by decide) (by rw [hM]; exact q250) rfl rfl hdg kk
theorem h2_l0 (F : hx_F X M (V2 G)) {j : Nat} (hj : j < 8) (hdg : decode M.1 pc = .ok (.iaload, 1)) (kk : hx_W X M (V2 G) σ (pc + 1) lv (.int (nI (σ 0 j)) :: st)) : hx_W X M (V2 G) σ pc lv (.int (nI j) :: .ref (hg_a G 0) :: st) :=
  hx_iald F 1 0 (g := σ 0) rfl rfl (by decide) hj hdg kk
theorem h2_s0 (F : hx_F X M (V2 G)) {j v : Nat} (hj : j < 8) (hdg : decode M.1 pc = .ok (.iastore, 1)) (kk : hx_W X M (V2 G) (hs_st σ 0 j v) (pc + 1) lv st) : hx_W X M (V2 G) σ pc lv (.int (nI v) :: .int (nI j) :: .ref (hg_a G 0) :: st) :=
  hx_iast F 1 0 (g := σ 0) rfl rfl (by decide) hj (hs_st σ 0 j v) rfl hdg kk
theorem h2_l1 (F : hx_F X M (V2 G)) {j : Nat} (hj : j < 72) (hdg : decode M.1 pc = .ok (.iaload, 1)) (kk : hx_W X M (V2 G) σ (pc + 1) lv (.int (nI (σ 1 j)) :: st)) : hx_W X M (V2 G) σ pc lv (.int (nI j) :: .ref (hg_a G 1) :: st) :=
  hx_iald F 2 1 (g := σ 1) rfl rfl (by decide) hj hdg kk
theorem h2_s1 (F : hx_F X M (V2 G)) {j v : Nat} (hj : j < 72) (hdg : decode M.1 pc = .ok (.iastore, 1)) (kk : hx_W X M (V2 G) (hs_st σ 1 j v) (pc + 1) lv st) : hx_W X M (V2 G) σ pc lv (.int (nI v) :: .int (nI j) :: .ref (hg_a G 1) :: st) :=
  hx_iast F 2 1 (g := σ 1) rfl rfl (by decide) hj (hs_st σ 1 j v) rfl hdg kk
theorem h2_l2 (F : hx_F X M (V2 G)) {j : Nat} (hj : j < 24) (hdg : decode M.1 pc = .ok (.iaload, 1)) (kk : hx_W X M (V2 G) σ (pc + 1) lv (.int (nI (σ 2 j)) :: st)) : hx_W X M (V2 G) σ pc lv (.int (nI j) :: .ref (hg_a G 2) :: st) :=
  hx_iald F 3 2 (g := σ 2) rfl rfl (by decide) hj hdg kk
theorem h2_s2 (F : hx_F X M (V2 G)) {j v : Nat} (hj : j < 24) (hdg : decode M.1 pc = .ok (.iastore, 1)) (kk : hx_W X M (V2 G) (hs_st σ 2 j v) (pc + 1) lv st) : hx_W X M (V2 G) σ pc lv (.int (nI v) :: .int (nI j) :: .ref (hg_a G 2) :: st) :=
  hx_iast F 3 2 (g := σ 2) rfl rfl (by decide) hj (hs_st σ 2 j v) rfl hdg kk
theorem h2_l3 (F : hx_F X M (V2 G)) {j : Nat} (hj : j < 24) (hdg : decode M.1 pc = .ok (.iaload, 1)) (kk : hx_W X M (V2 G) σ (pc + 1) lv (.int (nI (σ 3 j)) :: st)) : hx_W X M (V2 G) σ pc lv (.int (nI j) :: .ref (hg_a G 3) :: st) :=
  hx_iald F 4 3 (g := σ 3) rfl rfl (by decide) hj hdg kk
theorem h2_s3 (F : hx_F X M (V2 G)) {j v : Nat} (hj : j < 24) (hdg : decode M.1 pc = .ok (.iastore, 1)) (kk : hx_W X M (V2 G) (hs_st σ 3 j v) (pc + 1) lv st) : hx_W X M (V2 G) σ pc lv (.int (nI v) :: .int (nI j) :: .ref (hg_a G 3) :: st) :=
  hx_iast F 4 3 (g := σ 3) rfl rfl (by decide) hj (hs_st σ 3 j v) rfl hdg kk
theorem hc_X2_isRoot (F : hx_F X M (V2 G)) (hM : M.2.2.2.1 = RX2) (hR : 0 + 1 ≤ M.2.2.2.2.frames ∧ 8 + (2 + 11) + 0 ≤ M.2.2.2.2.locals) {a0 : Int32} {v : Nat} {τ : hs_S} (hC : hx_cI (hx_l X) yX2_isRoot mX2_isRoot (V2 G) σ [.ref (hg_h G), .int a0] v τ) (hrm : (rest.map fun v => v.category).sum ≤ 8) (hdg : decode M.1 pc = .ok (.invokevirtual 22, 3)) (kk : hx_W X M (V2 G) τ (pc + 3) lv (.int (nI v) :: rest)) : hx_W X M (V2 G) σ pc lv (.int a0 :: .ref (hg_h G) :: rest) :=
  hx_callI F hC (by rw [hM]; exact cwV 1 F.2.2.2.2.1 (lw_V q264 q266 qs20 q27 q267) rfl rfl rfl (by decide +kernel) hR) (ci := 1) rfl (q0 := 0) rfl rfl rfl hrm hdg (fun r σ' e => by obtain ⟨rfl, rfl⟩ := e; exact kk)
theorem hc_X2_reachable (F : hx_F X M (V2 G)) (hM : M.2.2.2.1 = RX2) (hR : 1 + 1 ≤ M.2.2.2.2.frames ∧ 8 + (1 + 11) + 25 ≤ M.2.2.2.2.locals) {v : Nat} {τ : hs_S} (hC : hx_cI (hx_l X) yX2_reachable mX2_reachable (V2 G) σ [.ref (hg_h G)] v τ) (hrm : (rest.map fun v => v.category).sum ≤ 8) (hdg : decode M.1 pc = .ok (.invokevirtual 26, 3)) (kk : hx_W X M (V2 G) τ (pc + 3) lv (.int (nI v) :: rest)) : hx_W X M (V2 G) σ pc lv (.ref (hg_h G) :: rest) :=
  hx_callI F hC (by rw [hM]; exact cwV 0 F.2.2.2.2.1 (lw_V q268 q269 q270 q27 q271) rfl rfl rfl (by decide +kernel) hR) (ci := 1) rfl (q0 := 0) rfl rfl rfl hrm hdg (fun r σ' e => by obtain ⟨rfl, rfl⟩ := e; exact kk)
theorem hc_X2_refusal (F : hx_F X M (V2 G)) (hM : M.2.2.2.1 = RX2) (hR : 1 + 1 ≤ M.2.2.2.2.frames ∧ 8 + (4 + 11) + 21 ≤ M.2.2.2.2.locals) {a0 a1 a2 : Int32} {v : Nat} {τ : hs_S} (hC : hx_cI (hx_l X) yX2_refusal mX2_refusal (V2 G) σ [.ref (hg_h G), .int a0, .int a1, .int a2] v τ) (hrm : (rest.map fun v => v.category).sum ≤ 8) (hdg : decode M.1 pc = .ok (.invokevirtual 30, 3)) (kk : hx_W X M (V2 G) τ (pc + 3) lv (.int (nI v) :: rest)) : hx_W X M (V2 G) σ pc lv (.int a2 :: .int a1 :: .int a0 :: .ref (hg_h G) :: rest) :=
  hx_callI F hC (by rw [hM]; exact cwV 3 F.2.2.2.2.1 (lw_V q292 q294 qs23 q27 q295) rfl rfl rfl (by decide +kernel) hR) (ci := 1) rfl (q0 := 0) rfl rfl rfl hrm hdg (fun r σ' e => by obtain ⟨rfl, rfl⟩ := e; exact kk)
theorem hc_X2_objectOf (F : hx_F X M (V2 G)) (hM : M.2.2.2.1 = RX2) (hR : 1 + 1 ≤ M.2.2.2.2.frames ∧ 8 + (2 + 11) + 21 ≤ M.2.2.2.2.locals) {a0 : Int32} {v : Nat} {τ : hs_S} (hC : hx_cI (hx_l X) yX2_objectOf mX2_objectOf (V2 G) σ [.ref (hg_h G), .int a0] v τ) (hrm : (rest.map fun v => v.category).sum ≤ 8) (hdg : decode M.1 pc = .ok (.invokevirtual 34, 3)) (kk : hx_W X M (V2 G) τ (pc + 3) lv (.int (nI v) :: rest)) : hx_W X M (V2 G) σ pc lv (.int a0 :: .ref (hg_h G) :: rest) :=
  hx_callI F hC (by rw [hM]; exact cwV 1 F.2.2.2.2.1 (lw_V q312 q314 qs24 q27 q315) rfl rfl rfl (by decide +kernel) hR) (ci := 1) rfl (q0 := 0) rfl rfl rfl hrm hdg (fun r σ' e => by obtain ⟨rfl, rfl⟩ := e; exact kk)
theorem hc_X2_held (F : hx_F X M (V2 G)) (hM : M.2.2.2.1 = RX2) (hR : 2 + 1 ≤ M.2.2.2.2.frames ∧ 8 + (2 + 11) + 42 ≤ M.2.2.2.2.locals) {a0 : Int32} {v : Nat} {τ : hs_S} (hC : hx_cI (hx_l X) yX2_held mX2_held (V2 G) σ [.ref (hg_h G), .int a0] v τ) (hrm : (rest.map fun v => v.category).sum ≤ 8) (hdg : decode M.1 pc = .ok (.invokevirtual 38, 3)) (kk : hx_W X M (V2 G) τ (pc + 3) lv (.int (nI v) :: rest)) : hx_W X M (V2 G) σ pc lv (.int a0 :: .ref (hg_h G) :: rest) :=
  hx_callI F hC (by rw [hM]; exact cwV 1 F.2.2.2.2.1 (lw_V q324 q317 q318 q27 q319) rfl rfl rfl (by decide +kernel) hR) (ci := 1) rfl (q0 := 0) rfl rfl rfl hrm hdg (fun r σ' e => by obtain ⟨rfl, rfl⟩ := e; exact kk)
theorem hc_X2_spread (F : hx_F X M (V2 G)) (hM : M.2.2.2.1 = RX2) (hR : 0 + 1 ≤ M.2.2.2.2.frames ∧ 8 + (6 + 11) + 0 ≤ M.2.2.2.2.locals) {a0 : Int32} {τ : hs_S} (hC : hx_cV (hx_l X) yX2_spread mX2_spread (V2 G) σ [.ref (hg_h G), .int a0] τ) (hrm : (rest.map fun v => v.category).sum ≤ 8) (hdg : decode M.1 pc = .ok (.invokevirtual 41, 3)) (kk : hx_W X M (V2 G) τ (pc + 3) lv (rest)) : hx_W X M (V2 G) σ pc lv (.int a0 :: .ref (hg_h G) :: rest) :=
  hx_callV F hC (by rw [hM]; exact cwV 1 F.2.2.2.2.1 (lw_V q272 q274 qs21 q27 q275) rfl rfl rfl (by decide +kernel) hR) (ci := 1) rfl (q0 := 0) rfl rfl rfl hrm hdg (fun σ' e => by subst e; exact kk)
theorem hc_X2_found (F : hx_F X M (V2 G)) (hM : M.2.2.2.1 = RX2) (hR : 0 + 1 ≤ M.2.2.2.2.frames ∧ 8 + (3 + 11) + 0 ≤ M.2.2.2.2.locals) {v : Nat} {τ : hs_S} (hC : hx_cI (hx_l X) yX2_found mX2_found (V2 G) σ [.ref (hg_h G)] v τ) (hrm : (rest.map fun v => v.category).sum ≤ 8) (hdg : decode M.1 pc = .ok (.invokevirtual 45, 3)) (kk : hx_W X M (V2 G) τ (pc + 3) lv (.int (nI v) :: rest)) : hx_W X M (V2 G) σ pc lv (.ref (hg_h G) :: rest) :=
  hx_callI F hC (by rw [hM]; exact cwV 0 F.2.2.2.2.1 (lw_V q276 q278 qs22 q27 q279) rfl rfl rfl (by decide +kernel) hR) (ci := 1) rfl (q0 := 0) rfl rfl rfl hrm hdg (fun r σ' e => by obtain ⟨rfl, rfl⟩ := e; exact kk)
end HXW
theorem kc_bm4 : (Int8.ofInt (-4)).toInt32 = nI 4294967292 := by decide +kernel
theorem kc_bm3 : (Int8.ofInt (-3)).toInt32 = nI 4294967293 := by decide +kernel
theorem kc_bm2 : (Int8.ofInt (-2)).toInt32 = nI 4294967294 := by decide +kernel
theorem kc_b7 : (Int8.ofInt (7)).toInt32 = nI 7 := by decide +kernel
theorem kc_b8 : (Int8.ofInt (8)).toInt32 = nI 8 := by decide +kernel
theorem kc_b15 : (Int8.ofInt (15)).toInt32 = nI 15 := by decide +kernel
theorem kc_b24 : (Int8.ofInt (24)).toInt32 = nI 24 := by decide +kernel
theorem kc_b64 : (Int8.ofInt (64)).toInt32 = nI 64 := by decide +kernel
theorem kc_b72 : (Int8.ofInt (72)).toInt32 = nI 72 := by decide +kernel
theorem kc_im1 : Int32.ofInt (-1) = nI 4294967295 := by decide +kernel
theorem kc_i0 : Int32.ofInt (0) = nI 0 := by decide +kernel
theorem kc_i1 : Int32.ofInt (1) = nI 1 := by decide +kernel
theorem kc_i2 : Int32.ofInt (2) = nI 2 := by decide +kernel
theorem kc_i3 : Int32.ofInt (3) = nI 3 := by decide +kernel
theorem kc_i4 : Int32.ofInt (4) = nI 4 := by decide +kernel
theorem kc_s192 : (Int16.ofInt (192)).toInt32 = nI 192 := by decide +kernel
theorem kc_s1000 : (Int16.ofInt (1000)).toInt32 = nI 1000 := by decide +kernel
end
section
set_option maxRecDepth 100000
/-- n turns of a counted loop from i on -/
def it_f {α : Type} (f : Nat → α → α) : Nat → Nat → α → α
  | 0, _, a => a
  | n + 1, i, a => it_f f n (i + 1) (f i a)
/-- at each of these turns the condition holds -/
def it_k {α : Type} (k : Nat → α → Prop) (f : Nat → α → α) : Nat → Nat → α → Prop
  | 0, _, _ => True
  | n + 1, i, a => k i a ∧ it_k k f n (i + 1) (f i a)
-- ===== the class: what each method does to the picture (cf_), and what it asks of it (ck_) =====
def cf_bad (r : Nat) : Nat := if r < 8 then 0 else 1
def cf_badF (f : Nat) : Nat := if f < 3 then 0 else 1
def cf_s1 (i : Nat) (τ : hs_S) : hs_S := hs_st τ 13 i 4294967295
def cf_start (σ : hs_S) : hs_S := hs_st (it_f cf_s1 64 0 σ) 15 0 0
def cf_visit (σ : hs_S) (r d : Nat) : hs_S := if r = 0 then σ else if σ 13 (r - 1) < 2147483648 then σ else hs_st (hs_st (hs_st σ 13 (r - 1) d) 14 (σ 15 0) (r - 1)) 15 0 (σ 15 0 + 1)
def ck_visit (σ : hs_S) (r : Nat) : Prop := r ≤ 64 ∧ (r ≠ 0 → σ 13 (r - 1) < 4294967296 ∧ (2147483648 ≤ σ 13 (r - 1) → σ 15 0 < 64))
def cf_vf (s f : Nat) (τ : hs_S) : hs_S := cf_visit τ (τ 4 (s * 3 + f)) (τ 13 s + 1)
def ck_vf (s f : Nat) (τ : hs_S) : Prop := ck_visit τ (τ 4 (s * 3 + f))
def cf_fin : Nat → Nat → hs_S → hs_S
  | 0, _, τ => τ
  | n + 1, i, τ => if i < τ 15 0 then cf_fin n (i + 1) (it_f (cf_vf (τ 14 i)) 3 0 τ) else τ
def ck_fin : Nat → Nat → hs_S → Prop
  | 0, _, τ => τ 15 0 < 2147483648
  | n + 1, i, τ => τ 15 0 < 2147483648 ∧ (i < τ 15 0 → τ 14 i < 64 ∧ it_k (ck_vf (τ 14 i)) (cf_vf (τ 14 i)) 3 0 τ ∧ ck_fin n (i + 1) (it_f (cf_vf (τ 14 i)) 3 0 τ))
def cf_vr (r : Nat) (τ : hs_S) : hs_S := cf_visit τ (τ 1 r) 0
def ck_vr (r : Nat) (τ : hs_S) : Prop := ck_visit τ (τ 1 r)
def cf_w1 (σ : hs_S) : hs_S := it_f cf_vr 8 0 (cf_start σ)
def cf_walk (σ : hs_S) : hs_S := cf_fin 64 0 (cf_w1 σ)
def ck_walk (σ : hs_S) : Prop := it_k ck_vr cf_vr 8 0 (cf_start σ) ∧ ck_fin 64 0 (cf_w1 σ)
def ck_ord (σ : hs_S) : Prop := σ 5 0 ≤ 8 ∧ ∀ i, i < 8 → σ 6 i < 8
def cf_inL (σ : hs_S) (b : Nat) : Nat → Nat → Nat
  | 0, _ => 0
  | n + 1, i => if σ 6 i = b then 1 else cf_inL σ b n (i + 1)
def cf_in (σ : hs_S) (b : Nat) : Nat := cf_inL σ b (σ 5 0) 0
def cf_ff (σ : hs_S) : Nat → Nat → Nat
  | 0, b => b
  | n + 1, b => if cf_in σ b = 0 then b else cf_ff σ n (b + 1)
def cf_fr (σ : hs_S) : Nat := cf_ff σ 7 0
def cf_open (σ : hs_S) : hs_S := if cf_in σ (cf_fr σ) = 0 then hs_st (hs_st (hs_st (hs_st σ 6 (σ 5 0) (cf_fr σ)) 5 0 (σ 5 0 + 1)) 8 0 0) 9 (cf_fr σ) 0 else σ
def ck_open (σ : hs_S) : Prop := σ 5 0 < 8 ∧ ∀ i, i < 8 → σ 6 i < 8
def cf_b0 (σ : hs_S) : hs_S := if σ 8 0 < 8 then σ else cf_open σ
def cf_bs (σ : hs_S) : Nat := cf_b0 σ 6 (cf_b0 σ 5 0 - 1) * 8 + cf_b0 σ 8 0
def cf_bump (σ : hs_S) : hs_S := hs_st (hs_st (cf_b0 σ) 8 0 (cf_b0 σ 8 0 + 1)) 2 (cf_bs σ) 1
def ck_bump (σ : hs_S) : Prop := σ 8 0 < 2147483648 ∧ (8 ≤ σ 8 0 → ck_open σ) ∧ 1 ≤ cf_b0 σ 5 0 ∧ cf_b0 σ 5 0 ≤ 8 ∧ cf_bs σ < 64
def cf_rem (σ : hs_S) (s r : Nat) : hs_S := if r = 0 then σ else hs_st σ 9 ((r - 1) / 8) (σ 9 ((r - 1) / 8) ||| 2 ^ s)
def ck_rem (s r : Nat) : Prop := s < 64 ∧ r ≤ 64
def cf_wi (r b : Nat) : Nat := if r = 0 then 0 else if (r - 1) / 8 = b then 1 else 0
def cf_cp (t s f : Nat) (τ : hs_S) : hs_S := hs_st τ 4 (t * 3 + f) (τ 4 (s * 3 + f))
def cf_e1 (σ : hs_S) (r : Nat) : hs_S := hs_st (cf_bump σ) 3 (cf_bs σ) (cf_bump σ 3 (r - 1))
def cf_e2 (σ : hs_S) (r : Nat) : hs_S := it_f (cf_cp (cf_bs σ) (r - 1)) 3 0 (cf_e1 σ r)
def cf_e3 (σ : hs_S) (r : Nat) : hs_S := hs_st (cf_e2 σ r) 10 (r - 1) (cf_bs σ + 1)
def cf_e4 (σ : hs_S) (r : Nat) : hs_S := hs_st (hs_st (cf_e3 σ r) 12 (cf_e3 σ r 11 0) (cf_bs σ)) 11 0 (cf_e3 σ r 11 0 + 1)
def cf_ev (σ : hs_S) (r : Nat) : hs_S := if σ 10 (r - 1) = 0 then cf_e4 σ r else σ
def cf_er (σ : hs_S) (r : Nat) : Nat := if σ 10 (r - 1) = 0 then cf_bs σ + 1 else σ 10 (r - 1)
def ck_ev (σ : hs_S) (r : Nat) : Prop := 1 ≤ r ∧ r ≤ 64 ∧ σ 10 (r - 1) < 4294967296 ∧ (σ 10 (r - 1) = 0 → ck_bump σ ∧ cf_e3 σ r 11 0 < 64)
def cf_x1 (s b f : Nat) (τ : hs_S) : hs_S := if cf_wi (τ 4 (s * 3 + f)) b = 0 then τ else hs_st (cf_ev τ (τ 4 (s * 3 + f))) 4 (s * 3 + f) (cf_er τ (τ 4 (s * 3 + f)))
def cf_fx (s b f : Nat) (τ : hs_S) : hs_S := cf_rem (cf_x1 s b f τ) s (cf_x1 s b f τ 4 (s * 3 + f))
def ck_fx (s b f : Nat) (τ : hs_S) : Prop := τ 4 (s * 3 + f) < 2147483648 ∧ (cf_wi (τ 4 (s * 3 + f)) b ≠ 0 → ck_ev τ (τ 4 (s * 3 + f))) ∧ cf_x1 s b f τ 4 (s * 3 + f) ≤ 64
def cf_fix (σ : hs_S) (s b : Nat) : hs_S := it_f (cf_fx s b) 3 0 σ
def ck_fix (σ : hs_S) (s b : Nat) : Prop := s < 64 ∧ b < 8 ∧ it_k (ck_fx s b) (cf_fx s b) 3 0 σ
def cf_f1 (b i : Nat) (u : Nat × hs_S) : Nat × hs_S := if u.2 6 i = b then u else (u.1 + 1, hs_st u.2 6 u.1 (u.2 6 i))
def ck_f1 (_b i : Nat) (u : Nat × hs_S) : Prop := u.1 < 8 ∧ u.2 6 i < 4294967296
def cf_fu (σ : hs_S) (b : Nat) : Nat × hs_S := it_f (cf_f1 b) (σ 5 0) 0 (0, σ)
def cf_g1 (σ : hs_S) (b : Nat) : hs_S := hs_st (cf_fu σ b).2 5 0 (cf_fu σ b).1
def cf_zu (b i : Nat) (τ : hs_S) : hs_S := hs_st τ 2 (b * 8 + i) 0
def cf_g2 (σ : hs_S) (b : Nat) : hs_S := hs_st (it_f (cf_zu b) 8 0 (cf_g1 σ b)) 9 b 0
def cf_go (b : Nat) : Nat := 255 * 2 ^ (b * 8)
def cf_zm (b c : Nat) (τ : hs_S) : hs_S := hs_st τ 9 c (τ 9 c &&& (cf_go b ^^^ 18446744073709551615))
def cf_free (σ : hs_S) (b : Nat) : hs_S := it_f (cf_zm b) 8 0 (cf_g2 σ b)
def ck_free (σ : hs_S) (b : Nat) : Prop := b < 8 ∧ σ 5 0 ≤ 8 ∧ it_k (ck_f1 b) (cf_f1 b) (σ 5 0) 0 (0, σ)
def cf_z10 (i : Nat) (τ : hs_S) : hs_S := hs_st τ 10 i 0
def cf_c1 (σ : hs_S) : hs_S := it_f cf_z10 64 0 (hs_st σ 11 0 0)
def cf_rt (b r : Nat) (τ : hs_S) : hs_S := if cf_wi (τ 1 r) b = 0 then τ else hs_st (cf_ev τ (τ 1 r)) 1 r (cf_er τ (τ 1 r))
def ck_rt (b r : Nat) (τ : hs_S) : Prop := τ 1 r < 2147483648 ∧ (cf_wi (τ 1 r) b ≠ 0 → ck_ev τ (τ 1 r))
def cf_c2 (σ : hs_S) (b : Nat) : hs_S := it_f (cf_rt b) 8 0 (cf_c1 σ)
def cf_sr (src b s : Nat) (τ : hs_S) : hs_S := if src.testBit s = true then (if τ 2 s = 0 then τ else if s / 8 = b then τ else cf_fix τ s b) else τ
def ck_sr (src b s : Nat) (τ : hs_S) : Prop := τ 2 s < 4294967296 ∧ (src.testBit s = true → τ 2 s ≠ 0 → s / 8 ≠ b → ck_fix τ s b)
def cf_c3 (σ : hs_S) (b : Nat) : hs_S := it_f (cf_sr (cf_c2 σ b 9 b) b) 64 0 (cf_c2 σ b)
def cf_cq (b : Nat) : Nat → Nat → hs_S → hs_S
  | 0, _, τ => τ
  | n + 1, i, τ => if i < τ 11 0 then cf_cq b n (i + 1) (cf_fix τ (τ 12 i) b) else τ
def ck_cq (b : Nat) : Nat → Nat → hs_S → Prop
  | 0, _, τ => τ 11 0 < 2147483648
  | n + 1, i, τ => τ 11 0 < 2147483648 ∧ (i < τ 11 0 → ck_fix τ (τ 12 i) b ∧ ck_cq b n (i + 1) (cf_fix τ (τ 12 i) b))
def cf_c4 (σ : hs_S) (b : Nat) : hs_S := cf_cq b 64 0 (cf_c3 σ b)
def cf_cb (σ : hs_S) (b : Nat) : hs_S := cf_free (cf_c4 σ b) b
def ck_cb (σ : hs_S) (b : Nat) : Prop := b < 8 ∧ it_k (ck_rt b) (cf_rt b) 8 0 (cf_c1 σ) ∧ cf_c2 σ b 9 b < 18446744073709551616 ∧ it_k (ck_sr (cf_c2 σ b 9 b) b) (cf_sr (cf_c2 σ b 9 b) b) 64 0 (cf_c2 σ b) ∧ ck_cq b 64 0 (cf_c3 σ b) ∧ ck_free (cf_c4 σ b) b
def cf_m0 (σ : hs_S) : hs_S := if σ 5 0 - 1 ≤ σ 7 0 then hs_st σ 7 0 0 else σ
def cf_m1 (σ : hs_S) : hs_S := cf_cb (cf_m0 σ) (cf_m0 σ 6 (cf_m0 σ 7 0))
def cf_mw (σ : hs_S) : hs_S := if σ 5 0 < 2 then σ else if 7 < σ 5 0 then σ else if cf_m0 σ 5 0 ≤ cf_m1 σ 5 0 then hs_st (cf_m1 σ) 7 0 (cf_m1 σ 7 0 + 1) else cf_m1 σ
def ck_mw (σ : hs_S) : Prop := σ 5 0 < 2147483648 ∧ σ 7 0 < 2147483648 ∧ (2 ≤ σ 5 0 → σ 5 0 ≤ 7 → cf_m0 σ 7 0 < 8 ∧ ck_cb (cf_m0 σ) (cf_m0 σ 6 (cf_m0 σ 7 0)) ∧ cf_m0 σ 5 0 < 2147483648 ∧ cf_m1 σ 5 0 < 2147483648)
def cf_mo (τ : hs_S) (r : Nat) : Nat := if r = 0 then 0 else τ 10 (r - 1)
def cf_a1 (σ : hs_S) : hs_S := it_f cf_z10 64 0 (cf_walk σ)
def cf_a2b (i : Nat) (τ : hs_S) : hs_S := hs_st τ 10 (τ 14 i) (i + 1)
def cf_a2 (σ : hs_S) : hs_S := it_f cf_a2b (cf_a1 σ 15 0) 0 (cf_a1 σ)
def cf_a3f (i f : Nat) (τ : hs_S) : hs_S := hs_st τ 17 (i * 3 + f) (cf_mo τ (τ 4 (τ 14 i * 3 + f)))
def cf_a3b (i : Nat) (τ : hs_S) : hs_S := it_f (cf_a3f i) 3 0 (hs_st τ 16 i (τ 3 (τ 14 i)))
def cf_a3 (σ : hs_S) : hs_S := it_f cf_a3b (cf_a2 σ 15 0) 0 (cf_a2 σ)
def cf_a4b (r : Nat) (τ : hs_S) : hs_S := hs_st τ 1 r (cf_mo τ (τ 1 r))
def cf_a4 (σ : hs_S) : hs_S := it_f cf_a4b 8 0 (cf_a3 σ)
def cf_a5b (b : Nat) (τ : hs_S) : hs_S := hs_st τ 9 b 0
def cf_a5 (σ : hs_S) : hs_S := it_f cf_a5b 8 0 (cf_a4 σ)
def cf_a6b (i : Nat) (τ : hs_S) : hs_S := hs_st τ 2 i (if i < τ 15 0 then 1 else 0)
def cf_a6 (σ : hs_S) : hs_S := it_f cf_a6b 64 0 (cf_a5 σ)
def cf_a7f (i f : Nat) (τ : hs_S) : hs_S := cf_rem (hs_st τ 4 (i * 3 + f) (τ 17 (i * 3 + f))) i (τ 17 (i * 3 + f))
def cf_a7b (i : Nat) (τ : hs_S) : hs_S := it_f (cf_a7f i) 3 0 (hs_st τ 3 i (τ 16 i))
def cf_a7 (σ : hs_S) : hs_S := it_f cf_a7b (cf_a6 σ 15 0) 0 (cf_a6 σ)
def cf_lb (n : Nat) : Nat := if n = 0 then 1 else (n + 8 - 1) / 8
def cf_lob (i : Nat) (τ : hs_S) : hs_S := hs_st τ 6 i i
def cf_la (σ : hs_S) (n : Nat) : hs_S := it_f cf_lob (cf_lb n) 0 (hs_st σ 5 0 (cf_lb n))
def cf_lay (σ : hs_S) (n : Nat) : hs_S := hs_st (hs_st (cf_la σ n) 8 0 (n - (cf_lb n - 1) * 8)) 7 0 0
def cf_all (σ : hs_S) : hs_S := cf_lay (cf_a7 σ) (cf_a7 σ 15 0)
def ck_a3f (i f : Nat) (τ : hs_S) : Prop := τ 14 i < 64 ∧ τ 4 (τ 14 i * 3 + f) ≤ 64
def ck_a3b (i : Nat) (τ : hs_S) : Prop := τ 14 i < 64 ∧ it_k (ck_a3f i) (cf_a3f i) 3 0 (hs_st τ 16 i (τ 3 (τ 14 i)))
def ck_a7f (i f : Nat) (τ : hs_S) : Prop := τ 17 (i * 3 + f) ≤ 64
def ck_a7b (i : Nat) (τ : hs_S) : Prop := it_k (ck_a7f i) (cf_a7f i) 3 0 (hs_st τ 3 i (τ 16 i))
def ck_a2b (i : Nat) (τ : hs_S) : Prop := τ 14 i < 64
def ck_a4b (r : Nat) (τ : hs_S) : Prop := τ 1 r ≤ 64
def ck_a6b (_ : Nat) (τ : hs_S) : Prop := τ 15 0 ≤ 64
def ck_all (σ : hs_S) : Prop := ck_walk σ ∧ cf_a1 σ 15 0 ≤ 64 ∧ (∀ n, n = cf_a1 σ 15 0 → it_k ck_a2b cf_a2b n 0 (cf_a1 σ)) ∧ cf_a2 σ 15 0 ≤ 64 ∧ (∀ n, n = cf_a2 σ 15 0 → it_k ck_a3b cf_a3b n 0 (cf_a2 σ)) ∧ it_k ck_a4b cf_a4b 8 0 (cf_a3 σ) ∧ cf_a6 σ 15 0 ≤ 64 ∧ it_k ck_a6b cf_a6b 64 0 (cf_a5 σ) ∧ (∀ n, n = cf_a6 σ 15 0 → it_k ck_a7b cf_a7b n 0 (cf_a6 σ)) ∧ cf_a7 σ 15 0 ≤ 64
def cf_ns : Nat → hs_S → hs_S
  | 0, τ => τ
  | n + 1, τ => if τ 8 0 < 8 then τ else if τ 5 0 < 7 then τ else cf_ns n (cf_mw τ)
def ck_ns (c : Nat) : Nat → hs_S → Prop
  | 0, τ => τ 0 0 = c
  | n + 1, τ => τ 0 0 = c ∧ τ 8 0 < 2147483648 ∧ τ 5 0 < 2147483648 ∧ (8 ≤ τ 8 0 → 7 ≤ τ 5 0 → ck_mw τ ∧ ck_ns c n (cf_mw τ))
def cf_n1 (σ : hs_S) : hs_S := cf_ns (2 * σ 0 0) σ
def cf_n2 (σ : hs_S) : hs_S := if cf_n1 σ 8 0 < 8 then cf_n1 σ else if cf_n1 σ 5 0 < 7 then cf_n1 σ else cf_all (cf_n1 σ)
def ck_new (σ : hs_S) : Prop := σ 0 0 ≤ 8 ∧ ck_ns (σ 0 0) (2 * σ 0 0) σ ∧ cf_n1 σ 8 0 < 2147483648 ∧ cf_n1 σ 5 0 < 2147483648 ∧ (8 ≤ cf_n1 σ 8 0 → 7 ≤ cf_n1 σ 5 0 → ck_all (cf_n1 σ)) ∧ ck_bump (cf_n2 σ)
def cf_k1 (s f : Nat) (τ : hs_S) : hs_S := hs_st τ 4 (s * 3 + f) 0
def cf_mk (σ : hs_S) (r v : Nat) : hs_S := hs_st (it_f (cf_k1 (cf_bs (cf_n2 σ))) 3 0 (hs_st (cf_bump (cf_n2 σ)) 3 (cf_bs (cf_n2 σ)) v)) 1 r (cf_bs (cf_n2 σ) + 1)
def cf_make (σ : hs_S) (r v : Nat) : hs_S := if r < 8 then (if 24 ≤ cf_walk σ 15 0 then cf_walk σ else cf_mk (cf_walk σ) r v) else σ
def cr_make (σ : hs_S) (r : Nat) : Nat := if r < 8 then (if 24 ≤ cf_walk σ 15 0 then 4294967292 else 0) else 4294967295
def ck_make (σ : hs_S) (r : Nat) : Prop := r < 8 → ck_walk σ ∧ cf_walk σ 15 0 < 2147483648 ∧ (cf_walk σ 15 0 < 24 → ck_new (cf_walk σ) ∧ cf_bs (cf_n2 (cf_walk σ)) < 64)
def cf_copy (σ : hs_S) (a b : Nat) : hs_S := if a < 8 then (if b < 8 then hs_st σ 1 b (σ 1 a) else σ) else σ
def cr_copy (a b : Nat) : Nat := if a < 8 then (if b < 8 then 0 else 4294967295) else 4294967295
def cf_drop (σ : hs_S) (a : Nat) : hs_S := if a < 8 then hs_st σ 1 a 0 else σ
def cr_drop (a : Nat) : Nat := if a < 8 then 0 else 4294967295
def cr_ref (σ : hs_S) (r f t : Nat) : Nat := if r < 8 then (if t < 8 then (if f < 3 then (if σ 1 r = 0 then 4294967293 else 0) else 4294967294) else 4294967295) else 4294967295
def ck_ref (σ : hs_S) : Prop := ∀ r, r < 8 → σ 1 r ≤ 64
def cf_load (σ : hs_S) (r f t : Nat) : hs_S := if r < 8 then (if t < 8 then (if f < 3 then (if σ 1 r = 0 then σ else hs_st σ 1 t (σ 4 ((σ 1 r - 1) * 3 + f))) else σ) else σ) else σ
def cf_store (σ : hs_S) (r f t : Nat) : hs_S := if r < 8 then (if t < 8 then (if f < 3 then (if σ 1 r = 0 then σ else cf_rem (hs_st σ 4 ((σ 1 r - 1) * 3 + f) (σ 1 t)) (σ 1 r - 1) (σ 1 t)) else σ) else σ) else σ
def cr_setp (σ : hs_S) (r : Nat) : Nat := if r < 8 then (if σ 1 r = 0 then 4294967293 else 0) else 4294967295
def cf_setp (σ : hs_S) (r v : Nat) : hs_S := if r < 8 then (if σ 1 r = 0 then σ else hs_st σ 3 (σ 1 r - 1) v) else σ
def cf_co : Nat → hs_S → hs_S
  | 0, τ => τ
  | n + 1, τ => cf_co n (cf_mw τ)
def ck_co (c : Nat) : Nat → hs_S → Prop
  | 0, τ => τ 0 0 = c
  | n + 1, τ => τ 0 0 = c ∧ ck_mw τ ∧ ck_co c n (cf_mw τ)
def cf_emp (σ : hs_S) (r : Nat) : Nat := if r < 8 then (if σ 1 r = 0 then 1 else 0) else 1
def cr_pay (σ : hs_S) (r : Nat) : Nat := if cf_emp σ r = 0 then σ 3 (σ 1 r - 1) else 0
def cr_held (σ : hs_S) (r : Nat) : Nat := if cf_emp σ r = 0 then 1 else 0
def cr_same (σ : hs_S) (a b : Nat) : Nat := if cf_emp σ a = 0 then (if cf_emp σ b = 0 then (if σ 1 a = σ 1 b then 1 else 0) else 0) else 0
def cf_from (σ : hs_S) (r : Nat) : hs_S := cf_fin 64 0 (cf_visit (cf_start σ) (cf_start σ 1 r) 0)
def ck_from (σ : hs_S) (r : Nat) : Prop := ck_visit (cf_start σ) (cf_start σ 1 r) ∧ ck_fin 64 0 (cf_visit (cf_start σ) (cf_start σ 1 r) 0)
def cf_rf (σ : hs_S) (r : Nat) : hs_S := if cf_emp σ r = 0 then cf_from σ r else σ
def cr_rf (σ : hs_S) (r : Nat) : Nat := if cf_emp σ r = 0 then cf_from σ r 15 0 else 0
def cf_dist (σ : hs_S) (a b : Nat) : hs_S := if cf_emp σ a = 0 then (if cf_emp σ b = 0 then cf_from σ a else σ) else σ
def cf_dv (τ : hs_S) (b : Nat) : Nat := if τ 13 (τ 1 b - 1) < 2147483648 then τ 13 (τ 1 b - 1) else 4294967293
def cr_dist (σ : hs_S) (a b : Nat) : Nat := if cf_emp σ a = 0 then (if cf_emp σ b = 0 then cf_dv (cf_from σ a) b else 4294967293) else 4294967293
def ck_dist (σ : hs_S) (a b : Nat) : Prop := cf_emp σ a = 0 → cf_emp σ b = 0 → ck_from σ a ∧ 1 ≤ cf_from σ a 1 b ∧ cf_from σ a 1 b ≤ 64 ∧ cf_from σ a 13 (cf_from σ a 1 b - 1) < 4294967296
def cf_su (τ : hs_S) (i a : Nat) : Nat := a + τ 3 (τ 14 i)
def cr_sum (σ : hs_S) : Nat := it_f (cf_su (cf_walk σ)) (cf_walk σ 15 0) 0 0
def ck_sum (σ : hs_S) : Prop := ck_walk σ ∧ cf_walk σ 15 0 ≤ 64 ∧ ∀ i, i < cf_walk σ 15 0 → cf_walk σ 14 i < 64
-- ===== the reference (mf_, mk_) =====
def mf_root (r : Nat) : Nat := if r < 8 then 1 else 0
def mf_obj (τ : hs_S) (r : Nat) : Nat := if r < 8 then τ 0 r else 4294967295
def mf_s1 (o : Nat) (τ : hs_S) : hs_S := hs_st τ 3 o 1000
def mf_s2 (a r : Nat) (τ : hs_S) : hs_S := if (2147483648 ≤ a ∨ a = r) then (if τ 0 r < 2147483648 then hs_st τ 3 (τ 0 r) 0 else τ) else τ
def mk_s2 (r : Nat) (τ : hs_S) : Prop := τ 0 r < 24 ∨ τ 0 r = 4294967295
def mf_rel (i : Nat) (τ : hs_S) : hs_S := if τ 3 (i / 3) < 1000 then (if τ 1 i < 2147483648 then (if τ 3 (i / 3) + 1 < τ 3 (τ 1 i) then hs_st τ 3 (τ 1 i) (τ 3 (i / 3) + 1) else τ) else τ) else τ
def mk_rel (i : Nat) (τ : hs_S) : Prop := τ 3 (i / 3) ≤ 1000 ∧ (τ 1 i = 4294967295 ∨ (τ 1 i < 24 ∧ τ 3 (τ 1 i) ≤ 1000))
def mf_rnd (_ : Nat) (τ : hs_S) : hs_S := it_f mf_rel 72 0 τ
def mk_rnd (_ : Nat) (τ : hs_S) : Prop := it_k mk_rel mf_rel 72 0 τ
def mf_p1 (τ : hs_S) : hs_S := it_f mf_s1 24 0 τ
def mf_p2 (τ : hs_S) (a : Nat) : hs_S := it_f (mf_s2 a) 8 0 (mf_p1 τ)
def mf_spread (τ : hs_S) (a : Nat) : hs_S := it_f mf_rnd 24 0 (mf_p2 τ a)
def mk_spread (τ : hs_S) (a : Nat) : Prop := a < 4294967296 ∧ it_k mk_s2 (mf_s2 a) 8 0 (mf_p1 τ) ∧ it_k mk_rnd mf_rnd 24 0 (mf_p2 τ a)
def mf_fo (τ : hs_S) (o n : Nat) : Nat := if τ 3 o < 1000 then n + 1 else n
def mf_found (τ : hs_S) : Nat := it_f (mf_fo τ) 24 0 0
def mk_found (τ : hs_S) : Prop := ∀ o, o < 24 → τ 3 o ≤ 1000
def mf_reach (τ : hs_S) : hs_S := mf_spread τ 4294967295
def mk_reach (τ : hs_S) : Prop := mk_spread τ 4294967295 ∧ mk_found (mf_reach τ)
def mf_pl (τ : hs_S) (o p : Nat) : Nat := if τ 3 o = 1000 then o else p
def mf_place (τ : hs_S) : Nat := it_f (mf_pl τ) 24 0 4294967295
def mf_k1 (p f : Nat) (τ : hs_S) : hs_S := hs_st τ 1 (p * 3 + f) 4294967295
def mf_mk (τ : hs_S) (r v : Nat) : hs_S := hs_st (hs_st (it_f (mf_k1 (mf_place τ)) 3 0 τ) 2 (mf_place τ) v) 0 r (mf_place τ)
def mf_make (τ : hs_S) (r v : Nat) : hs_S := if r < 8 then (if mf_found (mf_reach τ) = 24 then mf_reach τ else mf_mk (mf_reach τ) r v) else τ
def mr_make (τ : hs_S) (r : Nat) : Nat := if r < 8 then (if mf_found (mf_reach τ) = 24 then 4294967292 else 0) else 4294967295
def mk_make (τ : hs_S) (r : Nat) : Prop := r < 8 → mk_reach τ ∧ mf_found (mf_reach τ) < 4294967296 ∧ (mf_found (mf_reach τ) ≠ 24 → mf_place (mf_reach τ) < 24)
def mf_copy (τ : hs_S) (a b : Nat) : hs_S := if a < 8 then (if b < 8 then hs_st τ 0 b (τ 0 a) else τ) else τ
def mf_drop (τ : hs_S) (a : Nat) : hs_S := if a < 8 then hs_st τ 0 a 4294967295 else τ
def mr_ref (τ : hs_S) (r f t : Nat) : Nat := if r < 8 then (if t < 8 then (if f < 3 then (if τ 0 r < 2147483648 then 0 else 4294967293) else 4294967294) else 4294967295) else 4294967295
def mk_ref (τ : hs_S) : Prop := ∀ r, r < 8 → (τ 0 r < 24 ∨ τ 0 r = 4294967295)
def mf_load (τ : hs_S) (r f t : Nat) : hs_S := if mr_ref τ r f t = 0 then hs_st τ 0 t (τ 1 (τ 0 r * 3 + f)) else τ
def mf_store (τ : hs_S) (r f t : Nat) : hs_S := if mr_ref τ r f t = 0 then hs_st τ 1 (τ 0 r * 3 + f) (τ 0 t) else τ
def mf_setp (τ : hs_S) (r v : Nat) : hs_S := if mr_ref τ r 0 r = 0 then hs_st τ 2 (τ 0 r) v else τ
def mr_pay (τ : hs_S) (r : Nat) : Nat := if mf_obj τ r < 2147483648 then τ 2 (mf_obj τ r) else 0
def mr_held (τ : hs_S) (r : Nat) : Nat := if mf_obj τ r < 2147483648 then 1 else 0
def mr_same (τ : hs_S) (a b : Nat) : Nat := if mr_held τ a = 0 then 0 else if mr_held τ b = 0 then 0 else if τ 0 a = τ 0 b then 1 else 0
def mf_rf (τ : hs_S) (r : Nat) : hs_S := if mr_held τ r = 0 then τ else mf_spread τ r
def mr_rf (τ : hs_S) (r : Nat) : Nat := if mr_held τ r = 0 then 0 else mf_found (mf_spread τ r)
def mk_rf (τ : hs_S) (r : Nat) : Prop := mk_ref τ ∧ (mr_held τ r ≠ 0 → mk_spread τ r ∧ mk_found (mf_spread τ r))
def mf_dist (τ : hs_S) (a b : Nat) : hs_S := if mr_held τ a = 0 then τ else if mr_held τ b = 0 then τ else mf_spread τ a
def mf_dv (τ : hs_S) (b : Nat) : Nat := if τ 3 (τ 0 b) < 1000 then τ 3 (τ 0 b) else 4294967293
def mr_dist (τ : hs_S) (a b : Nat) : Nat := if mr_held τ a = 0 then 4294967293 else if mr_held τ b = 0 then 4294967293 else mf_dv (mf_spread τ a) b
def mk_dist (τ : hs_S) (a b : Nat) : Prop := mk_ref τ ∧ (mr_held τ a ≠ 0 → mr_held τ b ≠ 0 → mk_spread τ a ∧ mf_spread τ a 0 b < 24 ∧ mf_spread τ a 3 (mf_spread τ a 0 b) ≤ 1000)
def mf_su (τ : hs_S) (o a : Nat) : Nat := if τ 3 o < 1000 then a + τ 2 o else a
def mr_sum (τ : hs_S) : Nat := it_f (mf_su (mf_reach τ)) 24 0 0
def mk_sum (τ : hs_S) : Prop := mk_reach τ
end
section
set_option maxRecDepth 100000
/-! out of kit/laws/BITS.to-paste: lN n to 2^64 -/
theorem wb_tb (n : Nat) : (lN n).toBitVec = BitVec.ofNat 64 n := rfl
theorem wb_inj {a b : Int64} (h : a.toBitVec = b.toBitVec) : a = b := Int64.toBitVec_inj.mp h
theorem wb_tn {n : Nat} (h : n < 2 ^ 64) : (lN n).toBitVec.toNat = n := by rw [wb_tb, BitVec.toNat_ofNat, Nat.mod_eq_of_lt h]
theorem wb_of (x : Int64) : ∃ n, n < 2 ^ 64 ∧ x = lN n := ⟨x.toBitVec.toNat, x.toBitVec.isLt, wb_inj (by rw [wb_tb]; simp)⟩
theorem wb_of32 (x : Int32) : ∃ n, n < 2 ^ 32 ∧ x = nI n := ⟨x.toBitVec.toNat, x.toBitVec.isLt, Int32.toBitVec_inj.mp (by show _ = BitVec.ofNat 32 _; simp)⟩
theorem wb_c : ∀ k, k < 64 → ((nI k).toInt64 &&& 63) = lN k := by decide +kernel
theorem wb_cu : ∀ k, k < 64 → ((nI k).toInt64.toUInt64 &&& Int64.toUInt64 63) = UInt64.ofNat k := by decide +kernel
theorem wb_sm : ∀ k, k < 64 → (BitVec.ofNat 64 k).smod 64 = BitVec.ofNat 64 k := by decide +kernel
theorem wb_pw {a b : Nat} (h : a ≤ b) : 2 ^ b = 2 ^ a * 2 ^ (b - a) := by rw [← Nat.pow_add]; congr 1; omega
theorem wb_lt2 {a b : Nat} (h : a < b) : 2 ^ a < 2 ^ b := Nat.pow_lt_pow_right (by decide) h
theorem wb_mod (n : Nat) : lN n = lN (n % 2 ^ 64) := wb_inj (by rw [wb_tb, wb_tb]; apply BitVec.eq_of_toNat_eq; rw [BitVec.toNat_ofNat, BitVec.toNat_ofNat, Nat.mod_mod])
theorem wb_shr {n k : Nat} (hn : n < 2 ^ 64) (hk : k < 64) : ((lN n).toUInt64 >>> ((nI k).toInt64.toUInt64 &&& Int64.toUInt64 63)).toInt64 = lN (n / 2 ^ k) := by
  rw [wb_cu k hk]
  apply wb_inj
  apply BitVec.eq_of_toNat_eq
  show ((lN n).toUInt64 >>> UInt64.ofNat k).toNat = (BitVec.ofNat 64 _).toNat
  have h1 : (UInt64.ofNat k).toNat = k := by
    show (BitVec.ofNat 64 k).toNat = k
    rw [BitVec.toNat_ofNat, Nat.mod_eq_of_lt (by omega)]
  have h2 : (lN n).toUInt64.toNat = n := wb_tn hn
  rw [UInt64.toNat_shiftRight, h1, h2, Nat.mod_eq_of_lt hk, Nat.shiftRight_eq_div_pow, BitVec.toNat_ofNat, Nat.mod_eq_of_lt (Nat.lt_of_le_of_lt (Nat.div_le_self _ _) hn)]
theorem wb_shl (n : Nat) {k : Nat} (hk : k < 64) : lN n <<< ((nI k).toInt64 &&& 63) = lN (n * 2 ^ k) := by
  rw [wb_c k hk]
  apply wb_inj
  rw [Int64.toBitVec_shiftLeft, wb_tb, wb_tb, wb_tb, wb_sm k hk]
  apply BitVec.eq_of_toNat_eq
  rw [BitVec.shiftLeft_eq', BitVec.toNat_shiftLeft, BitVec.toNat_ofNat, BitVec.toNat_ofNat, BitVec.toNat_ofNat, Nat.mod_eq_of_lt (show k < 2 ^ 64 by omega), Nat.shiftLeft_eq, Nat.mul_mod, Nat.mod_mod, ← Nat.mul_mod]
theorem wb_and {a b : Nat} (ha : a < 2 ^ 64) (hb : b < 2 ^ 64) : lN a &&& lN b = lN (a &&& b) := by
  apply wb_inj
  rw [Int64.toBitVec_and, wb_tb, wb_tb, wb_tb]
  apply BitVec.eq_of_toNat_eq
  rw [BitVec.toNat_and, BitVec.toNat_ofNat, BitVec.toNat_ofNat, BitVec.toNat_ofNat, Nat.mod_eq_of_lt ha, Nat.mod_eq_of_lt hb, Nat.mod_eq_of_lt (Nat.and_lt_two_pow _ hb)]
theorem wb_or {a b : Nat} (ha : a < 2 ^ 64) (hb : b < 2 ^ 64) : lN a ||| lN b = lN (a ||| b) := by
  apply wb_inj
  rw [Int64.toBitVec_or, wb_tb, wb_tb, wb_tb]
  apply BitVec.eq_of_toNat_eq
  rw [BitVec.toNat_or, BitVec.toNat_ofNat, BitVec.toNat_ofNat, BitVec.toNat_ofNat, Nat.mod_eq_of_lt ha, Nat.mod_eq_of_lt hb, Nat.mod_eq_of_lt (Nat.or_lt_two_pow ha hb)]
theorem wb_mask {n k : Nat} (hn : n < 2 ^ 64) (hk : k < 64) : lN n &&& lN (2 ^ k - 1) = lN (n % 2 ^ k) := by
  rw [wb_and hn (by have := wb_lt2 hk; omega), Nat.and_two_pow_sub_one_eq_mod]
theorem wb_a1 {n : Nat} (hn : n < 2 ^ 64) : lN n &&& 1 = lN (n % 2) := wb_mask (k := 1) hn (by decide)
theorem wb_bit {n k : Nat} (hn : n < 2 ^ 64) (hk : k < 64) : ((lN n).toUInt64 >>> ((nI k).toInt64.toUInt64 &&& Int64.toUInt64 63)).toInt64 &&& 1 = lN (n / 2 ^ k % 2) := by
  rw [wb_shr hn hk, wb_a1 (Nat.lt_of_le_of_lt (Nat.div_le_self _ _) hn)]
theorem bl_lor (a b : Nat) : lN a ||| lN b = lN (a ||| b) := by
  apply wb_inj
  rw [Int64.toBitVec_or, wb_tb, wb_tb, wb_tb]
  apply BitVec.eq_of_getLsbD_eq
  intro i hi
  simp [BitVec.getLsbD_ofNat, Nat.testBit_or, hi]
theorem bl_land (a b : Nat) : lN a &&& lN b = lN (a &&& b) := by
  apply wb_inj
  rw [Int64.toBitVec_and, wb_tb, wb_tb, wb_tb]
  apply BitVec.eq_of_getLsbD_eq
  intro i hi
  simp [BitVec.getLsbD_ofNat, Nat.testBit_and, hi]
theorem bl_lxor (a b : Nat) : lN a ^^^ lN b = lN (a ^^^ b) := by
  apply wb_inj
  rw [Int64.toBitVec_xor, wb_tb, wb_tb, wb_tb]
  apply BitVec.eq_of_getLsbD_eq
  intro i hi
  simp [BitVec.getLsbD_ofNat, Nat.testBit_xor, hi]
theorem bl_shl (n : Nat) {k : Nat} (hk : k < 64) : lN n <<< ((nI k).toInt64 &&& 63) = lN (n * 2 ^ k) := wb_shl n hk
theorem bl_shl1 {k : Nat} (hk : k < 64) : lN 1 <<< ((nI k).toInt64 &&& 63) = lN (2 ^ k) := by rw [wb_shl 1 hk, Nat.one_mul]
theorem bl_bit {n k : Nat} (hn : n < 18446744073709551616) (hk : k < 64) : lg_cmp (((lN n).toUInt64 >>> ((nI k).toInt64.toUInt64 &&& Int64.toUInt64 63)).toInt64 &&& lN 1) (lN 1) = nI (if n.testBit k = true then 0 else 4294967295) := by
  have h1 : (lN 1 : Int64) = 1 := by decide +kernel
  rw [h1, wb_bit hn hk]
  have h2 : n.testBit k = decide (n / 2 ^ k % 2 = 1) := by rw [Nat.testBit_eq_decide_div_mod_eq]
  rw [h2]
  by_cases q : n / 2 ^ k % 2 = 1
  · rw [q]; simp only [decide_true, if_true]; decide +kernel
  · have q0 : n / 2 ^ k % 2 = 0 := by omega
    rw [q0]; simp; decide +kernel
theorem hs_same (σ : hs_S) (k j v : Nat) : hs_st σ k j v k j = v := by simp [hs_st]
theorem hs_ne (σ : hs_S) {k k' : Nat} (j v j' : Nat) (h : k' ≠ k) : hs_st σ k j v k' j' = σ k' j' := by simp [hs_st, h]
theorem hs_nj (σ : hs_S) (k : Nat) {j j' : Nat} (v : Nat) (h : j' ≠ j) : hs_st σ k j v k j' = σ k j' := by simp [hs_st, h]
theorem hs_if (σ : hs_S) (k j v j' : Nat) : hs_st σ k j v k j' = if j' = j then v else σ k j' := by simp [hs_st]
theorem cf_bad_lt (r : Nat) : cf_bad r < 4294967296 := by unfold cf_bad; split <;> omega
theorem cf_bad_0 {r : Nat} : cf_bad r = 0 ↔ r < 8 := by
  unfold cf_bad
  split
  · simp [*]
  · simp [*]
theorem cf_badF_lt (r : Nat) : cf_badF r < 4294967296 := by unfold cf_badF; split <;> omega
theorem cf_badF_0 {r : Nat} : cf_badF r = 0 ↔ r < 3 := by
  unfold cf_badF
  split
  · simp [*]
  · simp [*]
theorem cf_inL_lt (σ : hs_S) (b : Nat) : ∀ n i, cf_inL σ b n i < 2 := by
  intro n
  induction n with
  | zero => intro i; show 0 < 2; decide
  | succ n ih =>
    intro i
    show (if σ 6 i = b then 1 else cf_inL σ b n (i + 1)) < 2
    split
    · decide
    · exact ih _
theorem cf_in_lt (σ : hs_S) (b : Nat) : cf_in σ b < 4294967296 := Nat.lt_trans (cf_inL_lt σ b _ _) (by decide)
theorem cf_wi_lt (r b : Nat) : cf_wi r b < 4294967296 := by unfold cf_wi; (repeat' split) <;> omega
theorem cf_emp_lt (σ : hs_S) (r : Nat) : cf_emp σ r < 4294967296 := by unfold cf_emp; (repeat' split) <;> omega
theorem cf_emp_0 {σ : hs_S} {r : Nat} (h : cf_emp σ r = 0) : r < 8 ∧ σ 1 r ≠ 0 := by
  unfold cf_emp at h
  by_cases h1 : r < 8
  · rw [if_pos h1] at h
    refine ⟨h1, fun q => ?_⟩
    rw [if_pos q] at h
    exact absurd h (by decide)
  · rw [if_neg h1] at h
    exact absurd h (by decide)
theorem cf_rem_ne {σ : hs_S} {s r k j : Nat} (h : k ≠ 9) : cf_rem σ s r k j = σ k j := by
  unfold cf_rem
  split
  · rfl
  · exact hs_ne _ _ _ _ h
theorem cf_a7f_15 (i f : Nat) (τ : hs_S) : cf_a7f i f τ 15 0 = τ 15 0 := by
  unfold cf_a7f
  rw [cf_rem_ne (by decide)]
  rfl
theorem cf_a7b_15 (i : Nat) (τ : hs_S) : cf_a7b i τ 15 0 = τ 15 0 := by
  show cf_a7f i 2 (cf_a7f i 1 (cf_a7f i 0 (hs_st τ 3 i (τ 16 i)))) 15 0 = τ 15 0
  rw [cf_a7f_15, cf_a7f_15, cf_a7f_15]
  rfl
theorem cf_lb_b {n : Nat} (h : n ≤ 64) : 1 ≤ cf_lb n ∧ cf_lb n ≤ 8 ∧ (cf_lb n - 1) * 8 ≤ n := by
  unfold cf_lb
  split <;> omega
theorem mf_root_lt (r : Nat) : mf_root r < 4294967296 := by unfold mf_root; split <;> omega
theorem mf_root_0 {r : Nat} : mf_root r = 0 ↔ ¬ r < 8 := by
  unfold mf_root
  split
  · simp [*]
  · simp [*]
theorem mr_held_lt (τ : hs_S) (r : Nat) : mr_held τ r < 4294967296 := by unfold mr_held; split <;> omega
theorem mk_ref_lt {τ : hs_S} (h : mk_ref τ) {r : Nat} (hr : r < 8) : τ 0 r < 4294967296 := by rcases h r hr with q | q <;> omega
theorem mf_obj_b {τ : hs_S} (h : mk_ref τ) (r : Nat) : mf_obj τ r < 24 ∨ mf_obj τ r = 4294967295 := by
  unfold mf_obj
  split
  · exact h r (by assumption)
  · exact Or.inr rfl
theorem mr_held_1 {τ : hs_S} (h : mk_ref τ) {r : Nat} (hr : mr_held τ r ≠ 0) : r < 8 ∧ τ 0 r < 24 := by
  unfold mr_held mf_obj at hr
  by_cases h1 : r < 8
  · refine ⟨h1, ?_⟩
    rw [if_pos h1] at hr
    rcases h r h1 with q | q
    · exact q
    · rw [q] at hr
      exact absurd rfl hr
  · rw [if_neg h1] at hr
    exact absurd rfl hr
theorem mr_ref_c (τ : hs_S) (r f t : Nat) : mr_ref τ r f t = 0 ∨ 2147483648 ≤ mr_ref τ r f t ∧ mr_ref τ r f t < 4294967296 := by
  unfold mr_ref
  (repeat' split) <;> omega
theorem mr_ref_0 {τ : hs_S} (hk : mk_ref τ) {r f t : Nat} (h : mr_ref τ r f t = 0) : r < 8 ∧ t < 8 ∧ f < 3 ∧ τ 0 r < 24 := by
  unfold mr_ref at h
  by_cases h1 : r < 8
  · rw [if_pos h1] at h
    by_cases h2 : t < 8
    · rw [if_pos h2] at h
      by_cases h3 : f < 3
      · rw [if_pos h3] at h
        refine ⟨h1, h2, h3, ?_⟩
        rcases hk r h1 with q | q
        · exact q
        · rw [q] at h
          exact absurd h (by decide)
      · rw [if_neg h3] at h
        exact absurd h (by decide)
    · rw [if_neg h2] at h
      exact absurd h (by decide)
  · rw [if_neg h1] at h
    exact absurd h (by decide)
theorem mf_fo_b (τ : hs_S) : ∀ n i a, it_f (mf_fo τ) n i a ≤ a + n := by
  intro n
  induction n with
  | zero => intro i a; exact Nat.le_refl _
  | succ n ih =>
    intro i a
    show it_f (mf_fo τ) n (i + 1) (mf_fo τ i a) ≤ a + (n + 1)
    have h1 := ih (i + 1) (mf_fo τ i a)
    have h2 : mf_fo τ i a ≤ a + 1 := by unfold mf_fo; split <;> omega
    omega
end
section
set_option maxRecDepth 100000
set_option maxHeartbeats 4000000 in
theorem ct_X1_badRoot (l : Launch) (G : hx_G) (σ : hs_S) (r : Nat) (hk : r < 4294967296) : hx_cI l yX1_badRoot mX1_badRoot (V1 G) σ [.int (nI r)] (cf_bad r) (σ) := by
  refine hx_enterI (by decide +kernel) rfl (Nat.le_of_ble_eq_true rfl) (fun X E F => ?_)
  show hx_W X mX1_badRoot (V1 G) σ 0 [(0, .int (nI r))] []
  refine hx_iload_n (pc := 0) F dX1_badRoot_0 rfl 0 rfl ?_
  refine hx_if_lt (pc := 1) (tgt := 10) F (by omega) dX1_badRoot_1 (by decide) (fun h1 => ?_) (fun h1 => ?_)
  · refine hx_iconst (pc := 10) F dX1_badRoot_10 kc_i1 ?_
    refine hx_goto (pc := 11) (tgt := 15) F dX1_badRoot_11 (by decide) ?_
    exact hx_iret (pc := 15) F E rfl (by decide +kernel) ⟨congrArg nI (by unfold cf_bad; (repeat' split) <;> first | (exfalso; omega) | rfl), rfl⟩ dX1_badRoot_15
  · refine hx_iload_n (pc := 4) F dX1_badRoot_4 rfl 0 rfl ?_
    refine hx_bipush (pc := 5) F dX1_badRoot_5 kc_b8 ?_
    refine hx_icmp_lt (pc := 7) (tgt := 14) F (by omega) (by omega) dX1_badRoot_7 (by decide) (fun h7 => ?_) (fun h7 => ?_)
    · refine hx_iconst (pc := 14) F dX1_badRoot_14 kc_i0 ?_
      exact hx_iret (pc := 15) F E rfl (by decide +kernel) ⟨congrArg nI (by unfold cf_bad; (repeat' split) <;> first | (exfalso; omega) | rfl), rfl⟩ dX1_badRoot_15
    · refine hx_iconst (pc := 10) F dX1_badRoot_10 kc_i1 ?_
      refine hx_goto (pc := 11) (tgt := 15) F dX1_badRoot_11 (by decide) ?_
      exact hx_iret (pc := 15) F E rfl (by decide +kernel) ⟨congrArg nI (by unfold cf_bad; (repeat' split) <;> first | (exfalso; omega) | rfl), rfl⟩ dX1_badRoot_15
set_option maxHeartbeats 4000000 in
theorem ct_X1_badField (l : Launch) (G : hx_G) (σ : hs_S) (f : Nat) (hk : f < 4294967296) : hx_cI l yX1_badField mX1_badField (V1 G) σ [.int (nI f)] (cf_badF f) (σ) := by
  refine hx_enterI (by decide +kernel) rfl (Nat.le_of_ble_eq_true rfl) (fun X E F => ?_)
  show hx_W X mX1_badField (V1 G) σ 0 [(0, .int (nI f))] []
  refine hx_iload_n (pc := 0) F dX1_badField_0 rfl 0 rfl ?_
  refine hx_if_lt (pc := 1) (tgt := 9) F (by omega) dX1_badField_1 (by decide) (fun h1 => ?_) (fun h1 => ?_)
  · refine hx_iconst (pc := 9) F dX1_badField_9 kc_i1 ?_
    refine hx_goto (pc := 10) (tgt := 14) F dX1_badField_10 (by decide) ?_
    exact hx_iret (pc := 14) F E rfl (by decide +kernel) ⟨congrArg nI (by unfold cf_badF; (repeat' split) <;> first | (exfalso; omega) | rfl), rfl⟩ dX1_badField_14
  · refine hx_iload_n (pc := 4) F dX1_badField_4 rfl 0 rfl ?_
    refine hx_iconst (pc := 5) F dX1_badField_5 kc_i2 ?_
    refine hx_icmp_le (pc := 6) (tgt := 13) F (by omega) (by omega) dX1_badField_6 (by decide) (fun h6 => ?_) (fun h6 => ?_)
    · refine hx_iconst (pc := 13) F dX1_badField_13 kc_i0 ?_
      exact hx_iret (pc := 14) F E rfl (by decide +kernel) ⟨congrArg nI (by unfold cf_badF; (repeat' split) <;> first | (exfalso; omega) | rfl), rfl⟩ dX1_badField_14
    · refine hx_iconst (pc := 9) F dX1_badField_9 kc_i1 ?_
      refine hx_goto (pc := 10) (tgt := 14) F dX1_badField_10 (by decide) ?_
      exact hx_iret (pc := 14) F E rfl (by decide +kernel) ⟨congrArg nI (by unfold cf_badF; (repeat' split) <;> first | (exfalso; omega) | rfl), rfl⟩ dX1_badField_14
set_option maxHeartbeats 4000000 in
theorem ct_X1_startWalk (l : Launch) (G : hx_G) (σ : hs_S) (_hk : True) : hx_cV l yX1_startWalk mX1_startWalk (V1 G) σ [.ref (hg_h G)] (cf_start σ) := by
  refine hx_enterV (by decide +kernel) rfl (Nat.le_of_ble_eq_true rfl) (fun X E F => ?_)
  show hx_W X mX1_startWalk (V1 G) σ 0 [(0, .ref (hg_h G))] []
  refine hx_iconst (pc := 0) F dX1_startWalk_0 kc_i0 ?_
  refine hx_istore_n (pc := 1) (lv' := [(0, .ref (hg_h G)), (1, .int (nI 0))]) F dX1_startWalk_1 rfl (by decide) [1, 0] rfl ?_
  have L2 : ∀ (n2 : Nat) (i : Nat) (τ : hs_S), i + n2 = 64 → it_f cf_s1 n2 i τ = it_f cf_s1 64 0 σ → hx_W X mX1_startWalk (V1 G) τ 2 [(0, .ref (hg_h G)), (1, .int (nI i))] [] := by
    intro n2
    induction n2 with
    | zero =>
      intro i τ hi2 hf2
      have hz2 : i = 64 := by omega
      have hs2 : τ = it_f cf_s1 64 0 σ := hf2
      refine hx_as (σ' := it_f cf_s1 64 0 σ) (lv' := [(0, .ref (hg_h G)), (1, .int (nI 64))]) hs2 rfl (by rw [hz2]) rfl ?_
      refine hx_iload_n (pc := 2) F dX1_startWalk_2 rfl 1 rfl ?_
      refine hx_bipush (pc := 3) F dX1_startWalk_3 kc_b64 ?_
      refine hx_icmp_ge (pc := 5) (tgt := 21) F (by omega) (by omega) dX1_startWalk_5 (by decide) (fun h5 => ?_) (fun h5 => absurd h5 (by omega))
      refine hx_aload_n (pc := 21) F dX1_startWalk_21 rfl 0 rfl ?_
      refine hx_iconst (pc := 22) F dX1_startWalk_22 kc_i0 ?_
      refine h1_p15 (pc := 23) F rfl dX1_startWalk_23 ?_
      exact hx_vret (pc := 26) F E rfl rfl dX1_startWalk_26
    | succ n2 ih2 =>
      intro i τ hi2 hf2
      have hf2 : it_f cf_s1 n2 (i + 1) (cf_s1 i τ) = it_f cf_s1 64 0 σ := hf2
      refine hx_iload_n (pc := 2) F dX1_startWalk_2 rfl 1 rfl ?_
      refine hx_bipush (pc := 3) F dX1_startWalk_3 kc_b64 ?_
      refine hx_icmp_ge (pc := 5) (tgt := 21) F (by omega) (by omega) dX1_startWalk_5 (by decide) (fun h5 => absurd h5 (by omega)) (fun h5 => ?_)
      refine hx_aload_n (pc := 8) F dX1_startWalk_8 rfl 0 rfl ?_
      refine h1_g13 (pc := 9) F rfl dX1_startWalk_9 ?_
      refine hx_iload_n (pc := 12) F dX1_startWalk_12 rfl 1 rfl ?_
      refine hx_iconst (pc := 13) F dX1_startWalk_13 kc_im1 ?_
      refine h1_s13 (pc := 14) F (by omega) dX1_startWalk_14 ?_
      refine hx_iinc (pc := 15) (lv' := [(0, .ref (hg_h G)), (1, .int (nI (i + 1)))]) F dX1_startWalk_15 1 rfl (hx_inc1 _) (by decide) [1, 0] rfl ?_
      refine hx_goto (pc := 18) (tgt := 2) F dX1_startWalk_18 (by decide) ?_
      have e2 : cf_s1 i τ = (hs_st τ 13 i 4294967295) := rfl
      rw [e2] at hf2
      exact ih2 (i + 1) _ (by omega) hf2
  exact L2 (64) 0 σ (by omega) rfl
set_option maxHeartbeats 4000000 in
theorem ct_X1_visit (l : Launch) (G : hx_G) (σ : hs_S) (r : Nat) (d : Nat) (hk : ck_visit σ r) : hx_cV l yX1_visit mX1_visit (V1 G) σ [.ref (hg_h G), .int (nI r), .int (nI d)] (cf_visit σ r d) := by
  refine hx_enterV (by decide +kernel) rfl (Nat.le_of_ble_eq_true rfl) (fun X E F => ?_)
  show hx_W X mX1_visit (V1 G) σ 0 [(0, .ref (hg_h G)), (1, .int (nI r)), (2, .int (nI d))] []
  obtain ⟨hk1, hk2⟩ := hk
  refine hx_iload_n (pc := 0) F dX1_visit_0 rfl 1 rfl ?_
  refine hx_if_eq (pc := 1) (tgt := 15) F (by omega) dX1_visit_1 (by decide) (fun h1 => ?_) (fun h1 => ?_)
  · exact hx_vret (pc := 15) F E rfl (by unfold cf_visit; (repeat' split) <;> first | (exfalso; omega) | rfl) dX1_visit_15
  · have hk3 := hk2 h1
    refine hx_aload_n (pc := 4) F dX1_visit_4 rfl 0 rfl ?_
    refine h1_g13 (pc := 5) F rfl dX1_visit_5 ?_
    refine hx_iload_n (pc := 8) F dX1_visit_8 rfl 1 rfl ?_
    refine hx_iconst (pc := 9) F dX1_visit_9 kc_i1 ?_
    refine hx_isub (pc := 10) F (by omega) dX1_visit_10 ?_
    refine h1_l13 (pc := 11) F (by omega) dX1_visit_11 ?_
    refine hx_if_lt (pc := 12) (tgt := 16) F (by omega) dX1_visit_12 (by decide) (fun h12 => ?_) (fun h12 => ?_)
    · have hk4 := hk3.2 h12
      refine hx_aload_n (pc := 16) F dX1_visit_16 rfl 0 rfl ?_
      refine h1_g13 (pc := 17) F rfl dX1_visit_17 ?_
      refine hx_iload_n (pc := 20) F dX1_visit_20 rfl 1 rfl ?_
      refine hx_iconst (pc := 21) F dX1_visit_21 kc_i1 ?_
      refine hx_isub (pc := 22) F (by omega) dX1_visit_22 ?_
      refine hx_iload_n (pc := 23) F dX1_visit_23 rfl 2 rfl ?_
      refine h1_s13 (pc := 24) F (by omega) dX1_visit_24 ?_
      refine hx_aload_n (pc := 25) F dX1_visit_25 rfl 0 rfl ?_
      refine h1_g14 (pc := 26) F rfl dX1_visit_26 ?_
      refine hx_aload_n (pc := 29) F dX1_visit_29 rfl 0 rfl ?_
      refine h1_g15 (pc := 30) F rfl dX1_visit_30 ?_
      refine hx_topN (σ 15 0) rfl ?_
      refine hx_iload_n (pc := 33) F dX1_visit_33 rfl 1 rfl ?_
      refine hx_iconst (pc := 34) F dX1_visit_34 kc_i1 ?_
      refine hx_isub (pc := 35) F (by omega) dX1_visit_35 ?_
      refine h1_s14 (pc := 36) F (by omega) dX1_visit_36 ?_
      refine hx_aload_n (pc := 37) F dX1_visit_37 rfl 0 rfl ?_
      refine hx_dup (pc := 38) F dX1_visit_38 rfl ?_
      refine h1_g15 (pc := 39) F rfl dX1_visit_39 ?_
      refine hx_topN (σ 15 0) rfl ?_
      refine hx_iconst (pc := 42) F dX1_visit_42 kc_i1 ?_
      refine hx_iadd (pc := 43) F dX1_visit_43 ?_
      refine h1_p15 (pc := 44) F rfl dX1_visit_44 ?_
      exact hx_vret (pc := 47) F E rfl (by unfold cf_visit; (repeat' split) <;> first | (exfalso; omega) | rfl) dX1_visit_47
    · exact hx_vret (pc := 15) F E rfl (by unfold cf_visit; (repeat' split) <;> first | (exfalso; omega) | rfl) dX1_visit_15
set_option maxHeartbeats 4000000 in
theorem ct_X1_youngest (l : Launch) (G : hx_G) (σ : hs_S) (hk : 1 ≤ σ 5 0 ∧ σ 5 0 ≤ 8) : hx_cI l yX1_youngest mX1_youngest (V1 G) σ [.ref (hg_h G)] (σ 6 (σ 5 0 - 1)) (σ) := by
  refine hx_enterI (by decide +kernel) rfl (Nat.le_of_ble_eq_true rfl) (fun X E F => ?_)
  show hx_W X mX1_youngest (V1 G) σ 0 [(0, .ref (hg_h G))] []
  refine hx_aload_n (pc := 0) F dX1_youngest_0 rfl 0 rfl ?_
  refine h1_g6 (pc := 1) F rfl dX1_youngest_1 ?_
  refine hx_aload_n (pc := 4) F dX1_youngest_4 rfl 0 rfl ?_
  refine h1_g5 (pc := 5) F rfl dX1_youngest_5 ?_
  refine hx_iconst (pc := 8) F dX1_youngest_8 kc_i1 ?_
  refine hx_isub (pc := 9) F (by omega) dX1_youngest_9 ?_
  refine h1_l6 (pc := 10) F (by omega) dX1_youngest_10 ?_
  exact hx_iret (pc := 11) F E rfl rfl ⟨rfl, rfl⟩ dX1_youngest_11
set_option maxHeartbeats 4000000 in
theorem ct_X1_inUse (l : Launch) (G : hx_G) (σ : hs_S) (b : Nat) (hk : ck_ord σ ∧ b < 2147483648) : hx_cI l yX1_inUse mX1_inUse (V1 G) σ [.ref (hg_h G), .int (nI b)] (cf_in σ b) (σ) := by
  refine hx_enterI (by decide +kernel) rfl (Nat.le_of_ble_eq_true rfl) (fun X E F => ?_)
  show hx_W X mX1_inUse (V1 G) σ 0 [(0, .ref (hg_h G)), (1, .int (nI b))] []
  obtain ⟨⟨hk1, hk2⟩, hk3⟩ := hk
  refine hx_iconst (pc := 0) F dX1_inUse_0 kc_i0 ?_
  refine hx_istore_n (pc := 1) (lv' := [(0, .ref (hg_h G)), (1, .int (nI b)), (2, .int (nI 0))]) F dX1_inUse_1 rfl (by decide) [1, 2, 0] rfl ?_
  have L2 : ∀ (n2 : Nat) (i : Nat), i + n2 = σ 5 0 → cf_inL σ b n2 i = cf_in σ b → hx_W X mX1_inUse (V1 G) σ 2 [(0, .ref (hg_h G)), (1, .int (nI b)), (2, .int (nI i))] [] := by
    intro n2
    induction n2 with
    | zero =>
      intro i hi2 hf2
      have hf2 : 0 = cf_in σ b := hf2
      refine hx_iload_n (pc := 2) F dX1_inUse_2 rfl 2 rfl ?_
      refine hx_aload_n (pc := 3) F dX1_inUse_3 rfl 0 rfl ?_
      refine h1_g5 (pc := 4) F rfl dX1_inUse_4 ?_
      refine hx_icmp_ge (pc := 7) (tgt := 28) F (by omega) (by omega) dX1_inUse_7 (by decide) (fun h7 => ?_) (fun h7 => absurd h7 (by omega))
      refine hx_iconst (pc := 28) F dX1_inUse_28 kc_i0 ?_
      exact hx_iret (pc := 29) F E rfl (by decide +kernel) ⟨congrArg nI hf2, rfl⟩ dX1_inUse_29
    | succ n2 ih2 =>
      intro i hi2 hf2
      have hf2 : (if σ 6 i = b then 1 else cf_inL σ b n2 (i + 1)) = cf_in σ b := hf2
      refine hx_iload_n (pc := 2) F dX1_inUse_2 rfl 2 rfl ?_
      refine hx_aload_n (pc := 3) F dX1_inUse_3 rfl 0 rfl ?_
      refine h1_g5 (pc := 4) F rfl dX1_inUse_4 ?_
      refine hx_icmp_ge (pc := 7) (tgt := 28) F (by omega) (by omega) dX1_inUse_7 (by decide) (fun h7 => absurd h7 (by omega)) (fun h7 => ?_)
      have hk4 := hk2 i (by omega)
      refine hx_aload_n (pc := 10) F dX1_inUse_10 rfl 0 rfl ?_
      refine h1_g6 (pc := 11) F rfl dX1_inUse_11 ?_
      refine hx_iload_n (pc := 14) F dX1_inUse_14 rfl 2 rfl ?_
      refine h1_l6 (pc := 15) F (by omega) dX1_inUse_15 ?_
      refine hx_iload_n (pc := 16) F dX1_inUse_16 rfl 1 rfl ?_
      refine hx_icmp_ne (pc := 17) (tgt := 22) F (by omega) (by omega) dX1_inUse_17 (by decide) (fun h17 => ?_) (fun h17 => ?_)
      · refine hx_iinc (pc := 22) (lv' := [(0, .ref (hg_h G)), (1, .int (nI b)), (2, .int (nI (i + 1)))]) F dX1_inUse_22 2 rfl (hx_inc1 _) (by decide) [1, 2, 0] rfl ?_
        refine hx_goto (pc := 25) (tgt := 2) F dX1_inUse_25 (by decide) ?_
        have hf2 : cf_inL σ b n2 (i + 1) = cf_in σ b := by rw [← hf2]; exact (if_neg h17).symm
        exact ih2 (i + 1) (by omega) hf2
      · refine hx_iconst (pc := 20) F dX1_inUse_20 kc_i1 ?_
        exact hx_iret (pc := 21) F E rfl (by decide +kernel) ⟨congrArg nI (by rw [← hf2, if_pos h17]), rfl⟩ dX1_inUse_21
  exact L2 (σ 5 0) 0 (by omega) rfl
set_option maxHeartbeats 4000000 in
theorem ct_X1_openBlock (l : Launch) (G : hx_G) (σ : hs_S) (hk : ck_open σ) : hx_cV l yX1_openBlock mX1_openBlock (V1 G) σ [.ref (hg_h G)] (cf_open σ) := by
  refine hx_enterV (by decide +kernel) rfl (Nat.le_of_ble_eq_true rfl) (fun X E F => ?_)
  show hx_W X mX1_openBlock (V1 G) σ 0 [(0, .ref (hg_h G))] []
  obtain ⟨hk1, hk2⟩ := hk
  have hko : ck_ord σ := ⟨by omega, hk2⟩
  refine hx_iconst (pc := 0) F dX1_openBlock_0 kc_i0 ?_
  refine hx_istore_n (pc := 1) (lv' := [(0, .ref (hg_h G)), (1, .int (nI 0))]) F dX1_openBlock_1 rfl (by decide) [1, 0] rfl ?_
  refine hx_aload_n (pc := 2) F dX1_openBlock_2 rfl 0 rfl ?_
  refine hx_iload_n (pc := 3) F dX1_openBlock_3 rfl 1 rfl ?_
  refine hc_X1_inUse (pc := 4) F rfl (by decide) (ct_X1_inUse _ G σ 0 ⟨hko, by omega⟩) (Nat.le_of_ble_eq_true rfl) dX1_openBlock_4 ?_
  refine hx_istore_n (pc := 7) (lv' := [(0, .ref (hg_h G)), (1, .int (nI 0)), (2, .int (nI (cf_in σ 0)))]) F dX1_openBlock_7 rfl (by decide) [1, 2, 0] rfl ?_
  have L8 : ∀ (n8 : Nat) (b : Nat), b + n8 = 7 → cf_ff σ n8 b = cf_fr σ → hx_W X mX1_openBlock (V1 G) σ 8 [(0, .ref (hg_h G)), (1, .int (nI b)), (2, .int (nI (cf_in σ b)))] [] := by
    intro n8
    induction n8 with
    | zero =>
      intro b hi8 hf8
      have hf8 : b = cf_fr σ := hf8
      refine hx_iload_n (pc := 8) F dX1_openBlock_8 rfl 1 rfl ?_
      refine hx_bipush (pc := 9) F dX1_openBlock_9 kc_b7 ?_
      refine hx_icmp_ge (pc := 11) (tgt := 30) F (by omega) (by omega) dX1_openBlock_11 (by decide) (fun h11 => ?_) (fun h11 => absurd h11 (by omega))
      subst hf8
      refine hx_iload_n (pc := 30) F dX1_openBlock_30 rfl 2 rfl ?_
      refine hx_if_eq (pc := 31) (tgt := 35) F (cf_in_lt _ _) dX1_openBlock_31 (by decide) (fun h31 => ?_) (fun h31 => ?_)
      · refine hx_aload_n (pc := 35) F dX1_openBlock_35 rfl 0 rfl ?_
        refine h1_g6 (pc := 36) F rfl dX1_openBlock_36 ?_
        refine hx_aload_n (pc := 39) F dX1_openBlock_39 rfl 0 rfl ?_
        refine h1_g5 (pc := 40) F rfl dX1_openBlock_40 ?_
        refine hx_iload_n (pc := 43) F dX1_openBlock_43 rfl 1 rfl ?_
        refine h1_s6 (pc := 44) F (by omega) dX1_openBlock_44 ?_
        refine hx_aload_n (pc := 45) F dX1_openBlock_45 rfl 0 rfl ?_
        refine hx_dup (pc := 46) F dX1_openBlock_46 rfl ?_
        refine h1_g5 (pc := 47) F rfl dX1_openBlock_47 ?_
        refine hx_topN (σ 5 0) rfl ?_
        refine hx_iconst (pc := 50) F dX1_openBlock_50 kc_i1 ?_
        refine hx_iadd (pc := 51) F dX1_openBlock_51 ?_
        refine h1_p5 (pc := 52) F rfl dX1_openBlock_52 ?_
        refine hx_aload_n (pc := 55) F dX1_openBlock_55 rfl 0 rfl ?_
        refine hx_iconst (pc := 56) F dX1_openBlock_56 kc_i0 ?_
        refine h1_p8 (pc := 57) F rfl dX1_openBlock_57 ?_
        refine hx_aload_n (pc := 60) F dX1_openBlock_60 rfl 0 rfl ?_
        refine h1_g9 (pc := 61) F rfl dX1_openBlock_61 ?_
        refine hx_iload_n (pc := 64) F dX1_openBlock_64 rfl 1 rfl ?_
        refine hx_lconst (pc := 65) F dX1_openBlock_65 (v := lN 0) (by decide +kernel) ?_
        refine h1_s9 (pc := 66) F (by omega) dX1_openBlock_66 ?_
        exact hx_vret (pc := 67) F E rfl (by unfold cf_open; (repeat' split) <;> first | (exfalso; omega) | rfl) dX1_openBlock_67
      · exact hx_vret (pc := 34) F E rfl (by unfold cf_open; (repeat' split) <;> first | (exfalso; omega) | rfl) dX1_openBlock_34
    | succ n8 ih8 =>
      intro b hi8 hf8
      have hf8 : (if cf_in σ b = 0 then b else cf_ff σ n8 (b + 1)) = cf_fr σ := hf8
      refine hx_iload_n (pc := 8) F dX1_openBlock_8 rfl 1 rfl ?_
      refine hx_bipush (pc := 9) F dX1_openBlock_9 kc_b7 ?_
      refine hx_icmp_ge (pc := 11) (tgt := 30) F (by omega) (by omega) dX1_openBlock_11 (by decide) (fun h11 => absurd h11 (by omega)) (fun h11 => ?_)
      refine hx_iload_n (pc := 14) F dX1_openBlock_14 rfl 2 rfl ?_
      refine hx_if_eq (pc := 15) (tgt := 30) F (cf_in_lt _ _) dX1_openBlock_15 (by decide) (fun h15 => ?_) (fun h15 => ?_)
      · have hf8 : b = cf_fr σ := by rw [← hf8, if_pos h15]
        subst hf8
        refine hx_iload_n (pc := 30) F dX1_openBlock_30 rfl 2 rfl ?_
        refine hx_if_eq (pc := 31) (tgt := 35) F (cf_in_lt _ _) dX1_openBlock_31 (by decide) (fun h31 => ?_) (fun h31 => ?_)
        · refine hx_aload_n (pc := 35) F dX1_openBlock_35 rfl 0 rfl ?_
          refine h1_g6 (pc := 36) F rfl dX1_openBlock_36 ?_
          refine hx_aload_n (pc := 39) F dX1_openBlock_39 rfl 0 rfl ?_
          refine h1_g5 (pc := 40) F rfl dX1_openBlock_40 ?_
          refine hx_iload_n (pc := 43) F dX1_openBlock_43 rfl 1 rfl ?_
          refine h1_s6 (pc := 44) F (by omega) dX1_openBlock_44 ?_
          refine hx_aload_n (pc := 45) F dX1_openBlock_45 rfl 0 rfl ?_
          refine hx_dup (pc := 46) F dX1_openBlock_46 rfl ?_
          refine h1_g5 (pc := 47) F rfl dX1_openBlock_47 ?_
          refine hx_topN (σ 5 0) rfl ?_
          refine hx_iconst (pc := 50) F dX1_openBlock_50 kc_i1 ?_
          refine hx_iadd (pc := 51) F dX1_openBlock_51 ?_
          refine h1_p5 (pc := 52) F rfl dX1_openBlock_52 ?_
          refine hx_aload_n (pc := 55) F dX1_openBlock_55 rfl 0 rfl ?_
          refine hx_iconst (pc := 56) F dX1_openBlock_56 kc_i0 ?_
          refine h1_p8 (pc := 57) F rfl dX1_openBlock_57 ?_
          refine hx_aload_n (pc := 60) F dX1_openBlock_60 rfl 0 rfl ?_
          refine h1_g9 (pc := 61) F rfl dX1_openBlock_61 ?_
          refine hx_iload_n (pc := 64) F dX1_openBlock_64 rfl 1 rfl ?_
          refine hx_lconst (pc := 65) F dX1_openBlock_65 (v := lN 0) (by decide +kernel) ?_
          refine h1_s9 (pc := 66) F (by omega) dX1_openBlock_66 ?_
          exact hx_vret (pc := 67) F E rfl (by unfold cf_open; (repeat' split) <;> first | (exfalso; omega) | rfl) dX1_openBlock_67
        · exact hx_vret (pc := 34) F E rfl (by unfold cf_open; (repeat' split) <;> first | (exfalso; omega) | rfl) dX1_openBlock_34
      · refine hx_iinc (pc := 18) (lv' := [(0, .ref (hg_h G)), (1, .int (nI (b + 1))), (2, .int (nI (cf_in σ b)))]) F dX1_openBlock_18 1 rfl (hx_inc1 _) (by decide) [1, 0, 2] rfl ?_
        refine hx_aload_n (pc := 21) F dX1_openBlock_21 rfl 0 rfl ?_
        refine hx_iload_n (pc := 22) F dX1_openBlock_22 rfl 1 rfl ?_
        refine hc_X1_inUse (pc := 23) F rfl (by decide) (ct_X1_inUse _ G σ (b + 1) ⟨hko, by omega⟩) (Nat.le_of_ble_eq_true rfl) dX1_openBlock_23 ?_
        refine hx_istore_n (pc := 26) (lv' := [(0, .ref (hg_h G)), (1, .int (nI (b + 1))), (2, .int (nI (cf_in σ (b + 1))))]) F dX1_openBlock_26 rfl (by decide) [1, 2, 0] rfl ?_
        refine hx_goto (pc := 27) (tgt := 8) F dX1_openBlock_27 (by decide) ?_
        exact ih8 (b + 1) (by omega) (by rw [← hf8]; exact (if_neg h15).symm)
  exact L8 7 0 (by omega) rfl
set_option maxHeartbeats 4000000 in
theorem ct_X1_bump (l : Launch) (G : hx_G) (σ : hs_S) (hk : ck_bump σ) : hx_cI l yX1_bump mX1_bump (V1 G) σ [.ref (hg_h G)] (cf_bs σ) (cf_bump σ) := by
  refine hx_enterI (by decide +kernel) rfl (Nat.le_of_ble_eq_true rfl) (fun X E F => ?_)
  show hx_W X mX1_bump (V1 G) σ 0 [(0, .ref (hg_h G))] []
  obtain ⟨hk1, hk2, hk3, hk4, hk5⟩ := hk
  have hb0 : σ 8 0 < 8 → cf_b0 σ = σ := fun h => if_pos h
  have hb1 : 8 ≤ σ 8 0 → cf_b0 σ = cf_open σ := fun h => if_neg (by omega)
  refine hx_aload_n (pc := 0) F dX1_bump_0 rfl 0 rfl ?_
  refine h1_g8 (pc := 1) F rfl dX1_bump_1 ?_
  refine hx_bipush (pc := 4) F dX1_bump_4 kc_b8 ?_
  refine hx_icmp_lt (pc := 6) (tgt := 13) F (by omega) (by omega) dX1_bump_6 (by decide) (fun h6 => ?_) (fun h6 => ?_)
  · have hb : σ = cf_b0 σ := (hb0 h6).symm
    refine hx_as (σ' := (cf_b0 σ)) hb rfl rfl rfl ?_
    refine hx_aload_n (pc := 13) F dX1_bump_13 rfl 0 rfl ?_
    refine hc_X1_youngest (pc := 14) F rfl (by decide) (ct_X1_youngest _ G (cf_b0 σ)  ⟨hk3, hk4⟩) (Nat.le_of_ble_eq_true rfl) dX1_bump_14 ?_
    refine hx_bipush (pc := 17) F dX1_bump_17 kc_b8 ?_
    refine hx_imul (pc := 19) F dX1_bump_19 ?_
    refine hx_aload_n (pc := 20) F dX1_bump_20 rfl 0 rfl ?_
    refine h1_g8 (pc := 21) F rfl dX1_bump_21 ?_
    refine hx_iadd (pc := 24) F dX1_bump_24 ?_
    refine hx_istore_n (pc := 25) (lv' := [(0, .ref (hg_h G)), (1, .int (nI ((((cf_b0 σ) 6 ((cf_b0 σ) 5 0 - 1)) * 8) + ((cf_b0 σ) 8 0))))]) F dX1_bump_25 rfl (by decide) [1, 0] rfl ?_
    refine hx_aload_n (pc := 26) F dX1_bump_26 rfl 0 rfl ?_
    refine hx_dup (pc := 27) F dX1_bump_27 rfl ?_
    refine h1_g8 (pc := 28) F rfl dX1_bump_28 ?_
    refine hx_iconst (pc := 31) F dX1_bump_31 kc_i1 ?_
    refine hx_iadd (pc := 32) F dX1_bump_32 ?_
    refine h1_p8 (pc := 33) F rfl dX1_bump_33 ?_
    refine hx_aload_n (pc := 36) F dX1_bump_36 rfl 0 rfl ?_
    refine h1_g2 (pc := 37) F rfl dX1_bump_37 ?_
    refine hx_iload_n (pc := 40) F dX1_bump_40 rfl 1 rfl ?_
    refine hx_iconst (pc := 41) F dX1_bump_41 kc_i1 ?_
    refine h1_s2 (pc := 42) F hk5 (by decide) dX1_bump_42 ?_
    refine hx_iload_n (pc := 43) F dX1_bump_43 rfl 1 rfl ?_
    exact hx_iret (pc := 44) F E rfl rfl ⟨rfl, rfl⟩ dX1_bump_44
  · refine hx_aload_n (pc := 9) F dX1_bump_9 rfl 0 rfl ?_
    refine hc_X1_openBlock (pc := 10) F rfl (by decide) (ct_X1_openBlock _ G σ  (hk2 h6)) (Nat.le_of_ble_eq_true rfl) dX1_bump_10 ?_
    have hb : cf_open σ = cf_b0 σ := (hb1 h6).symm
    refine hx_as (σ' := (cf_b0 σ)) hb rfl rfl rfl ?_
    refine hx_aload_n (pc := 13) F dX1_bump_13 rfl 0 rfl ?_
    refine hc_X1_youngest (pc := 14) F rfl (by decide) (ct_X1_youngest _ G (cf_b0 σ)  ⟨hk3, hk4⟩) (Nat.le_of_ble_eq_true rfl) dX1_bump_14 ?_
    refine hx_bipush (pc := 17) F dX1_bump_17 kc_b8 ?_
    refine hx_imul (pc := 19) F dX1_bump_19 ?_
    refine hx_aload_n (pc := 20) F dX1_bump_20 rfl 0 rfl ?_
    refine h1_g8 (pc := 21) F rfl dX1_bump_21 ?_
    refine hx_iadd (pc := 24) F dX1_bump_24 ?_
    refine hx_istore_n (pc := 25) (lv' := [(0, .ref (hg_h G)), (1, .int (nI ((((cf_b0 σ) 6 ((cf_b0 σ) 5 0 - 1)) * 8) + ((cf_b0 σ) 8 0))))]) F dX1_bump_25 rfl (by decide) [1, 0] rfl ?_
    refine hx_aload_n (pc := 26) F dX1_bump_26 rfl 0 rfl ?_
    refine hx_dup (pc := 27) F dX1_bump_27 rfl ?_
    refine h1_g8 (pc := 28) F rfl dX1_bump_28 ?_
    refine hx_iconst (pc := 31) F dX1_bump_31 kc_i1 ?_
    refine hx_iadd (pc := 32) F dX1_bump_32 ?_
    refine h1_p8 (pc := 33) F rfl dX1_bump_33 ?_
    refine hx_aload_n (pc := 36) F dX1_bump_36 rfl 0 rfl ?_
    refine h1_g2 (pc := 37) F rfl dX1_bump_37 ?_
    refine hx_iload_n (pc := 40) F dX1_bump_40 rfl 1 rfl ?_
    refine hx_iconst (pc := 41) F dX1_bump_41 kc_i1 ?_
    refine h1_s2 (pc := 42) F hk5 (by decide) dX1_bump_42 ?_
    refine hx_iload_n (pc := 43) F dX1_bump_43 rfl 1 rfl ?_
    exact hx_iret (pc := 44) F E rfl rfl ⟨rfl, rfl⟩ dX1_bump_44
set_option maxHeartbeats 4000000 in
theorem ct_X1_remember (l : Launch) (G : hx_G) (σ : hs_S) (s : Nat) (r : Nat) (hk : ck_rem s r) : hx_cV l yX1_remember mX1_remember (V1 G) σ [.ref (hg_h G), .int (nI s), .int (nI r)] (cf_rem σ s r) := by
  refine hx_enterV (by decide +kernel) rfl (Nat.le_of_ble_eq_true rfl) (fun X E F => ?_)
  show hx_W X mX1_remember (V1 G) σ 0 [(0, .ref (hg_h G)), (1, .int (nI s)), (2, .int (nI r))] []
  obtain ⟨hk1, hk2⟩ := hk
  refine hx_iload_n (pc := 0) F dX1_remember_0 rfl 2 rfl ?_
  refine hx_if_eq (pc := 1) (tgt := 21) F (by omega) dX1_remember_1 (by decide) (fun h1 => ?_) (fun h1 => ?_)
  · exact hx_vret (pc := 21) F E rfl (by unfold cf_rem; (repeat' split) <;> first | (exfalso; omega) | rfl) dX1_remember_21
  · refine hx_aload_n (pc := 4) F dX1_remember_4 rfl 0 rfl ?_
    refine h1_g9 (pc := 5) F rfl dX1_remember_5 ?_
    refine hx_iload_n (pc := 8) F dX1_remember_8 rfl 2 rfl ?_
    refine hx_iconst (pc := 9) F dX1_remember_9 kc_i1 ?_
    refine hx_isub (pc := 10) F (by omega) dX1_remember_10 ?_
    refine hx_bipush (pc := 11) F dX1_remember_11 kc_b8 ?_
    refine hx_idiv (pc := 13) F (by omega) (by decide) (by decide) dX1_remember_13 ?_
    refine hx_dup2 (pc := 14) F dX1_remember_14 rfl rfl ?_
    refine h1_l9 (pc := 15) F (by omega) dX1_remember_15 ?_
    refine hx_lconst (pc := 16) F dX1_remember_16 (v := lN 1) (by decide +kernel) ?_
    refine hx_iload_n (pc := 17) F dX1_remember_17 rfl 1 rfl ?_
    refine hx_lshl (pc := 18) (v := lN (2 ^ s)) F dX1_remember_18 (bl_shl1 hk1) ?_
    refine hx_lor (pc := 19) F dX1_remember_19 ?_
    refine hx_topl (lN ((σ 9 ((r - 1) / 8)) ||| (2 ^ s))) (bl_lor _ _) ?_
    refine h1_s9 (pc := 20) F (by omega) dX1_remember_20 ?_
    exact hx_vret (pc := 21) F E rfl (by unfold cf_rem; (repeat' split) <;> first | (exfalso; omega) | rfl) dX1_remember_21
set_option maxHeartbeats 4000000 in
theorem ct_X1_within (l : Launch) (G : hx_G) (σ : hs_S) (r : Nat) (b : Nat) (hk : r < 2147483648 ∧ b < 2147483648) : hx_cI l yX1_within mX1_within (V1 G) σ [.ref (hg_h G), .int (nI r), .int (nI b)] (cf_wi r b) (σ) := by
  refine hx_enterI (by decide +kernel) rfl (Nat.le_of_ble_eq_true rfl) (fun X E F => ?_)
  show hx_W X mX1_within (V1 G) σ 0 [(0, .ref (hg_h G)), (1, .int (nI r)), (2, .int (nI b))] []
  obtain ⟨hk1, hk2⟩ := hk
  refine hx_iload_n (pc := 0) F dX1_within_0 rfl 1 rfl ?_
  refine hx_if_eq (pc := 1) (tgt := 18) F (by omega) dX1_within_1 (by decide) (fun h1 => ?_) (fun h1 => ?_)
  · refine hx_iconst (pc := 18) F dX1_within_18 kc_i0 ?_
    exact hx_iret (pc := 19) F E rfl (by decide +kernel) ⟨congrArg nI (by unfold cf_wi; (repeat' split) <;> first | (exfalso; omega) | rfl), rfl⟩ dX1_within_19
  · refine hx_iload_n (pc := 4) F dX1_within_4 rfl 1 rfl ?_
    refine hx_iconst (pc := 5) F dX1_within_5 kc_i1 ?_
    refine hx_isub (pc := 6) F (by omega) dX1_within_6 ?_
    refine hx_bipush (pc := 7) F dX1_within_7 kc_b8 ?_
    refine hx_idiv (pc := 9) F (by omega) (by decide) (by decide) dX1_within_9 ?_
    refine hx_iload_n (pc := 10) F dX1_within_10 rfl 2 rfl ?_
    refine hx_icmp_ne (pc := 11) (tgt := 18) F (by omega) (by omega) dX1_within_11 (by decide) (fun h11 => ?_) (fun h11 => ?_)
    · refine hx_iconst (pc := 18) F dX1_within_18 kc_i0 ?_
      exact hx_iret (pc := 19) F E rfl (by decide +kernel) ⟨congrArg nI (by unfold cf_wi; (repeat' split) <;> first | (exfalso; omega) | rfl), rfl⟩ dX1_within_19
    · refine hx_iconst (pc := 14) F dX1_within_14 kc_i1 ?_
      refine hx_goto (pc := 15) (tgt := 19) F dX1_within_15 (by decide) ?_
      exact hx_iret (pc := 19) F E rfl (by decide +kernel) ⟨congrArg nI (by unfold cf_wi; (repeat' split) <;> first | (exfalso; omega) | rfl), rfl⟩ dX1_within_19
set_option maxHeartbeats 4000000 in
theorem ct_X1_moved (l : Launch) (G : hx_G) (σ : hs_S) (r : Nat) (hk : r ≤ 64) : hx_cI l yX1_moved mX1_moved (V1 G) σ [.ref (hg_h G), .int (nI r)] (cf_mo σ r) (σ) := by
  refine hx_enterI (by decide +kernel) rfl (Nat.le_of_ble_eq_true rfl) (fun X E F => ?_)
  show hx_W X mX1_moved (V1 G) σ 0 [(0, .ref (hg_h G)), (1, .int (nI r))] []
  refine hx_iload_n (pc := 0) F dX1_moved_0 rfl 1 rfl ?_
  refine hx_if_ne (pc := 1) (tgt := 8) F (by omega) dX1_moved_1 (by decide) (fun h1 => ?_) (fun h1 => ?_)
  · refine hx_aload_n (pc := 8) F dX1_moved_8 rfl 0 rfl ?_
    refine h1_g10 (pc := 9) F rfl dX1_moved_9 ?_
    refine hx_iload_n (pc := 12) F dX1_moved_12 rfl 1 rfl ?_
    refine hx_iconst (pc := 13) F dX1_moved_13 kc_i1 ?_
    refine hx_isub (pc := 14) F (by omega) dX1_moved_14 ?_
    refine h1_l10 (pc := 15) F (by omega) dX1_moved_15 ?_
    exact hx_iret (pc := 16) F E rfl rfl ⟨congrArg nI (by unfold cf_mo; (repeat' split) <;> first | (exfalso; omega) | rfl), rfl⟩ dX1_moved_16
  · refine hx_iconst (pc := 4) F dX1_moved_4 kc_i0 ?_
    refine hx_goto (pc := 5) (tgt := 16) F dX1_moved_5 (by decide) ?_
    exact hx_iret (pc := 16) F E rfl rfl ⟨congrArg nI (by unfold cf_mo; (repeat' split) <;> first | (exfalso; omega) | rfl), rfl⟩ dX1_moved_16
end
section
set_option maxRecDepth 100000
set_option maxHeartbeats 4000000 in
theorem ct_X1_finishWalk (l : Launch) (G : hx_G) (σ : hs_S) (hk : ck_fin 64 0 σ) : hx_cV l yX1_finishWalk mX1_finishWalk (V1 G) σ [.ref (hg_h G)] (cf_fin 64 0 σ) := by
  refine hx_enterV (by decide +kernel) rfl (Nat.le_of_ble_eq_true rfl) (fun X E F => ?_)
  show hx_W X mX1_finishWalk (V1 G) σ 0 [(0, .ref (hg_h G))] []
  refine hx_iconst (pc := 0) F dX1_finishWalk_0 kc_i0 ?_
  refine hx_istore_n (pc := 1) (lv' := [(0, .ref (hg_h G)), (1, .int (nI 0))]) F dX1_finishWalk_1 rfl (by decide) [1, 0] rfl ?_
  have L2 : ∀ (n2 : Nat) (i : Nat) (τ : hs_S), i + n2 = 64 → cf_fin n2 i τ = cf_fin 64 0 σ → ck_fin n2 i τ → hx_W X mX1_finishWalk (V1 G) τ 2 [(0, .ref (hg_h G)), (1, .int (nI i))] [] := by
    intro n2
    induction n2 with
    | zero =>
      intro i τ hi2 hf2 hk2
      have hf2 : τ = cf_fin 64 0 σ := hf2
      have hk2 : τ 15 0 < 2147483648 := hk2
      refine hx_iload_n (pc := 2) F dX1_finishWalk_2 rfl 1 rfl ?_
      refine hx_aload_n (pc := 3) F dX1_finishWalk_3 rfl 0 rfl ?_
      refine h1_g15 (pc := 4) F rfl dX1_finishWalk_4 ?_
      refine hx_icmp_ge (pc := 7) (tgt := 64) F (by omega) (by omega) dX1_finishWalk_7 (by decide) (fun h7 => ?_) (fun h7 => ?_)
      · exact hx_vret (pc := 64) F E rfl hf2 dX1_finishWalk_64
      · refine hx_iload_n (pc := 10) F dX1_finishWalk_10 rfl 1 rfl ?_
        refine hx_bipush (pc := 11) F dX1_finishWalk_11 kc_b64 ?_
        refine hx_icmp_ge (pc := 13) (tgt := 64) F (by omega) (by omega) dX1_finishWalk_13 (by decide) (fun h13 => ?_) (fun h13 => absurd h13 (by omega))
        exact hx_vret (pc := 64) F E rfl hf2 dX1_finishWalk_64
    | succ n2 ih2 =>
      intro i τ hi2 hf2 hk2
      have hf2 : (if i < τ 15 0 then cf_fin n2 (i + 1) (it_f (cf_vf (τ 14 i)) 3 0 τ) else τ) = cf_fin 64 0 σ := hf2
      obtain ⟨hk2, hk3⟩ := hk2
      refine hx_iload_n (pc := 2) F dX1_finishWalk_2 rfl 1 rfl ?_
      refine hx_aload_n (pc := 3) F dX1_finishWalk_3 rfl 0 rfl ?_
      refine h1_g15 (pc := 4) F rfl dX1_finishWalk_4 ?_
      refine hx_icmp_ge (pc := 7) (tgt := 64) F (by omega) (by omega) dX1_finishWalk_7 (by decide) (fun h7 => ?_) (fun h7 => ?_)
      · exact hx_vret (pc := 64) F E rfl (by rw [← hf2]; exact (if_neg (by omega)).symm) dX1_finishWalk_64
      · refine hx_iload_n (pc := 10) F dX1_finishWalk_10 rfl 1 rfl ?_
        refine hx_bipush (pc := 11) F dX1_finishWalk_11 kc_b64 ?_
        refine hx_icmp_ge (pc := 13) (tgt := 64) F (by omega) (by omega) dX1_finishWalk_13 (by decide) (fun h13 => absurd h13 (by omega)) (fun h13 => ?_)
        obtain ⟨hk4, hk5, hk6⟩ := hk3 h7
        refine hx_aload_n (pc := 16) F dX1_finishWalk_16 rfl 0 rfl ?_
        refine h1_g14 (pc := 17) F rfl dX1_finishWalk_17 ?_
        refine hx_iload_n (pc := 20) F dX1_finishWalk_20 rfl 1 rfl ?_
        refine h1_l14 (pc := 21) F (by omega) dX1_finishWalk_21 ?_
        refine hx_istore_n (pc := 22) (lv' := [(0, .ref (hg_h G)), (1, .int (nI i)), (2, .int (nI (τ 14 i)))]) F dX1_finishWalk_22 rfl (by decide) [1, 2, 0] rfl ?_
        refine hx_iconst (pc := 23) F dX1_finishWalk_23 kc_i0 ?_
        refine hx_istore_n (pc := 24) (lv' := [(0, .ref (hg_h G)), (1, .int (nI i)), (2, .int (nI (τ 14 i))), (3, .int (nI 0))]) F dX1_finishWalk_24 rfl (by decide) [1, 2, 3, 0] rfl ?_
        have L25 : ∀ (n25 : Nat) (f : Nat) (υ : hs_S), f + n25 = 3 → it_f (cf_vf (τ 14 i)) n25 f υ = it_f (cf_vf (τ 14 i)) 3 0 τ → it_k (ck_vf (τ 14 i)) (cf_vf (τ 14 i)) n25 f υ → hx_W X mX1_finishWalk (V1 G) υ 25 [(0, .ref (hg_h G)), (1, .int (nI i)), (2, .int (nI (τ 14 i))), (3, .int (nI f))] [] := by
          intro n25
          induction n25 with
          | zero =>
            intro f υ hi25 hf25 hk25
            have hz25 : f = 3 := by omega
            have hs25 : υ = it_f (cf_vf (τ 14 i)) 3 0 τ := hf25
            refine hx_as (σ' := it_f (cf_vf (τ 14 i)) 3 0 τ) (lv' := [(0, .ref (hg_h G)), (1, .int (nI i)), (2, .int (nI (τ 14 i))), (3, .int (nI 3))]) hs25 rfl (by rw [hz25]) rfl ?_
            refine hx_iload_n (pc := 25) F dX1_finishWalk_25 rfl 3 rfl ?_
            refine hx_iconst (pc := 26) F dX1_finishWalk_26 kc_i3 ?_
            refine hx_icmp_ge (pc := 27) (tgt := 58) F (by omega) (by omega) dX1_finishWalk_27 (by decide) (fun h27 => ?_) (fun h27 => absurd h27 (by omega))
            refine hx_iinc (pc := 58) (lv' := [(0, .ref (hg_h G)), (1, .int (nI (i + 1))), (2, .int (nI (τ 14 i))), (3, .int (nI 3))]) F dX1_finishWalk_58 1 rfl (hx_inc1 _) (by decide) [1, 0, 2, 3] rfl ?_
            refine hx_goto (pc := 61) (tgt := 2) F dX1_finishWalk_61 (by decide) ?_
            refine hx_sub [0, 1] (lv' := [(0, .ref (hg_h G)), (1, .int (nI (i + 1)))]) rfl ?_
            exact ih2 (i + 1) _ (by omega) (by rw [← hf2, if_pos h7]) hk6
          | succ n25 ih25 =>
            intro f υ hi25 hf25 hk25
            obtain ⟨hj25, hk25⟩ := hk25
            have hf25 : it_f (cf_vf (τ 14 i)) n25 (f + 1) (cf_vf (τ 14 i) f υ) = it_f (cf_vf (τ 14 i)) 3 0 τ := hf25
            refine hx_iload_n (pc := 25) F dX1_finishWalk_25 rfl 3 rfl ?_
            refine hx_iconst (pc := 26) F dX1_finishWalk_26 kc_i3 ?_
            refine hx_icmp_ge (pc := 27) (tgt := 58) F (by omega) (by omega) dX1_finishWalk_27 (by decide) (fun h27 => absurd h27 (by omega)) (fun h27 => ?_)
            refine hx_aload_n (pc := 30) F dX1_finishWalk_30 rfl 0 rfl ?_
            refine hx_aload_n (pc := 31) F dX1_finishWalk_31 rfl 0 rfl ?_
            refine h1_g4 (pc := 32) F rfl dX1_finishWalk_32 ?_
            refine hx_iload_n (pc := 35) F dX1_finishWalk_35 rfl 2 rfl ?_
            refine hx_iconst (pc := 36) F dX1_finishWalk_36 kc_i3 ?_
            refine hx_imul (pc := 37) F dX1_finishWalk_37 ?_
            refine hx_iload_n (pc := 38) F dX1_finishWalk_38 rfl 3 rfl ?_
            refine hx_iadd (pc := 39) F dX1_finishWalk_39 ?_
            refine h1_l4 (pc := 40) F (by omega) dX1_finishWalk_40 ?_
            refine hx_aload_n (pc := 41) F dX1_finishWalk_41 rfl 0 rfl ?_
            refine h1_g13 (pc := 42) F rfl dX1_finishWalk_42 ?_
            refine hx_iload_n (pc := 45) F dX1_finishWalk_45 rfl 2 rfl ?_
            refine h1_l13 (pc := 46) F (by omega) dX1_finishWalk_46 ?_
            refine hx_iconst (pc := 47) F dX1_finishWalk_47 kc_i1 ?_
            refine hx_iadd (pc := 48) F dX1_finishWalk_48 ?_
            refine hc_X1_visit (pc := 49) F rfl (by decide) (ct_X1_visit _ G υ (υ 4 (((τ 14 i) * 3) + f)) ((υ 13 (τ 14 i)) + 1) hj25) (Nat.le_of_ble_eq_true rfl) dX1_finishWalk_49 ?_
            refine hx_iinc (pc := 52) (lv' := [(0, .ref (hg_h G)), (1, .int (nI i)), (2, .int (nI (τ 14 i))), (3, .int (nI (f + 1)))]) F dX1_finishWalk_52 3 rfl (hx_inc1 _) (by decide) [1, 2, 3, 0] rfl ?_
            refine hx_goto (pc := 55) (tgt := 25) F dX1_finishWalk_55 (by decide) ?_
            have e25 : cf_vf (τ 14 i) f υ = cf_visit υ (υ 4 (((τ 14 i) * 3) + f)) ((υ 13 (τ 14 i)) + 1) := rfl
            rw [e25] at hf25 hk25
            exact ih25 (f + 1) _ (by omega) hf25 hk25
        exact L25 (3) 0 τ (by omega) rfl hk5
  exact L2 64 0 σ (by omega) rfl hk
set_option maxHeartbeats 4000000 in
theorem ct_X1_walkFromRoots (l : Launch) (G : hx_G) (σ : hs_S) (hk : ck_walk σ) : hx_cV l yX1_walkFromRoots mX1_walkFromRoots (V1 G) σ [.ref (hg_h G)] (cf_walk σ) := by
  refine hx_enterV (by decide +kernel) rfl (Nat.le_of_ble_eq_true rfl) (fun X E F => ?_)
  show hx_W X mX1_walkFromRoots (V1 G) σ 0 [(0, .ref (hg_h G))] []
  obtain ⟨hk1, hk2⟩ := hk
  refine hx_aload_n (pc := 0) F dX1_walkFromRoots_0 rfl 0 rfl ?_
  refine hc_X1_startWalk (pc := 1) F rfl (by decide) (ct_X1_startWalk _ G σ  trivial) (Nat.le_of_ble_eq_true rfl) dX1_walkFromRoots_1 ?_
  refine hx_iconst (pc := 4) F dX1_walkFromRoots_4 kc_i0 ?_
  refine hx_istore_n (pc := 5) (lv' := [(0, .ref (hg_h G)), (1, .int (nI 0))]) F dX1_walkFromRoots_5 rfl (by decide) [1, 0] rfl ?_
  have L6 : ∀ (n6 : Nat) (r : Nat) (τ : hs_S), r + n6 = 8 → it_f cf_vr n6 r τ = cf_w1 σ → it_k ck_vr cf_vr n6 r τ → hx_W X mX1_walkFromRoots (V1 G) τ 6 [(0, .ref (hg_h G)), (1, .int (nI r))] [] := by
    intro n6
    induction n6 with
    | zero =>
      intro r τ hi6 hf6 hk6
      have hz6 : r = 8 := by omega
      have hs6 : τ = cf_w1 σ := hf6
      refine hx_as (σ' := cf_w1 σ) (lv' := [(0, .ref (hg_h G)), (1, .int (nI 8))]) hs6 rfl (by rw [hz6]) rfl ?_
      refine hx_iload_n (pc := 6) F dX1_walkFromRoots_6 rfl 1 rfl ?_
      refine hx_bipush (pc := 7) F dX1_walkFromRoots_7 kc_b8 ?_
      refine hx_icmp_ge (pc := 9) (tgt := 29) F (by omega) (by omega) dX1_walkFromRoots_9 (by decide) (fun h9 => ?_) (fun h9 => absurd h9 (by omega))
      refine hx_aload_n (pc := 29) F dX1_walkFromRoots_29 rfl 0 rfl ?_
      refine hc_X1_finishWalk (pc := 30) F rfl (by decide) (ct_X1_finishWalk _ G (cf_w1 σ)  hk2) (Nat.le_of_ble_eq_true rfl) dX1_walkFromRoots_30 ?_
      exact hx_vret (pc := 33) F E rfl rfl dX1_walkFromRoots_33
    | succ n6 ih6 =>
      intro r τ hi6 hf6 hk6
      obtain ⟨hj6, hk6⟩ := hk6
      have hf6 : it_f cf_vr n6 (r + 1) (cf_vr r τ) = cf_w1 σ := hf6
      refine hx_iload_n (pc := 6) F dX1_walkFromRoots_6 rfl 1 rfl ?_
      refine hx_bipush (pc := 7) F dX1_walkFromRoots_7 kc_b8 ?_
      refine hx_icmp_ge (pc := 9) (tgt := 29) F (by omega) (by omega) dX1_walkFromRoots_9 (by decide) (fun h9 => absurd h9 (by omega)) (fun h9 => ?_)
      refine hx_aload_n (pc := 12) F dX1_walkFromRoots_12 rfl 0 rfl ?_
      refine hx_aload_n (pc := 13) F dX1_walkFromRoots_13 rfl 0 rfl ?_
      refine h1_g1 (pc := 14) F rfl dX1_walkFromRoots_14 ?_
      refine hx_iload_n (pc := 17) F dX1_walkFromRoots_17 rfl 1 rfl ?_
      refine h1_l1 (pc := 18) F (by omega) dX1_walkFromRoots_18 ?_
      refine hx_iconst (pc := 19) F dX1_walkFromRoots_19 kc_i0 ?_
      refine hc_X1_visit (pc := 20) F rfl (by decide) (ct_X1_visit _ G τ (τ 1 r) 0 hj6) (Nat.le_of_ble_eq_true rfl) dX1_walkFromRoots_20 ?_
      refine hx_iinc (pc := 23) (lv' := [(0, .ref (hg_h G)), (1, .int (nI (r + 1)))]) F dX1_walkFromRoots_23 1 rfl (hx_inc1 _) (by decide) [1, 0] rfl ?_
      refine hx_goto (pc := 26) (tgt := 6) F dX1_walkFromRoots_26 (by decide) ?_
      have e6 : cf_vr r τ = cf_visit τ (τ 1 r) 0 := rfl
      rw [e6] at hf6 hk6
      exact ih6 (r + 1) _ (by omega) hf6 hk6
  exact L6 (8) 0 (cf_start σ) (by omega) rfl hk1
set_option maxHeartbeats 4000000 in
theorem ct_X1_evacuate (l : Launch) (G : hx_G) (σ : hs_S) (r : Nat) (hk : ck_ev σ r) : hx_cI l yX1_evacuate mX1_evacuate (V1 G) σ [.ref (hg_h G), .int (nI r)] (cf_er σ r) (cf_ev σ r) := by
  refine hx_enterI (by decide +kernel) rfl (Nat.le_of_ble_eq_true rfl) (fun X E F => ?_)
  show hx_W X mX1_evacuate (V1 G) σ 0 [(0, .ref (hg_h G)), (1, .int (nI r))] []
  obtain ⟨hk1, hk2, hk3, hk4⟩ := hk
  refine hx_iload_n (pc := 0) F dX1_evacuate_0 rfl 1 rfl ?_
  refine hx_iconst (pc := 1) F dX1_evacuate_1 kc_i1 ?_
  refine hx_isub (pc := 2) F (by omega) dX1_evacuate_2 ?_
  refine hx_istore_n (pc := 3) (lv' := [(0, .ref (hg_h G)), (1, .int (nI r)), (2, .int (nI (r - 1)))]) F dX1_evacuate_3 rfl (by decide) [1, 2, 0] rfl ?_
  refine hx_aload_n (pc := 4) F dX1_evacuate_4 rfl 0 rfl ?_
  refine h1_g10 (pc := 5) F rfl dX1_evacuate_5 ?_
  refine hx_iload_n (pc := 8) F dX1_evacuate_8 rfl 2 rfl ?_
  refine h1_l10 (pc := 9) F (by omega) dX1_evacuate_9 ?_
  refine hx_if_eq (pc := 10) (tgt := 20) F (by omega) dX1_evacuate_10 (by decide) (fun h10 => ?_) (fun h10 => ?_)
  · obtain ⟨hk5, hk6⟩ := hk4 h10
    have hbs := hk5.2.2.2.2
    have hk7 : cf_e2 σ r 11 0 < 64 := hk6
    refine hx_aload_n (pc := 20) F dX1_evacuate_20 rfl 0 rfl ?_
    refine hc_X1_bump (pc := 21) F rfl (by decide) (ct_X1_bump _ G σ  hk5) (Nat.le_of_ble_eq_true rfl) dX1_evacuate_21 ?_
    refine hx_istore_n (pc := 24) (lv' := [(0, .ref (hg_h G)), (1, .int (nI r)), (2, .int (nI (r - 1))), (3, .int (nI (cf_bs σ)))]) F dX1_evacuate_24 rfl (by decide) [1, 2, 3, 0] rfl ?_
    refine hx_aload_n (pc := 25) F dX1_evacuate_25 rfl 0 rfl ?_
    refine h1_g3 (pc := 26) F rfl dX1_evacuate_26 ?_
    refine hx_iload_n (pc := 29) F dX1_evacuate_29 rfl 3 rfl ?_
    refine hx_aload_n (pc := 30) F dX1_evacuate_30 rfl 0 rfl ?_
    refine h1_g3 (pc := 31) F rfl dX1_evacuate_31 ?_
    refine hx_iload_n (pc := 34) F dX1_evacuate_34 rfl 2 rfl ?_
    refine h1_l3 (pc := 35) F (by omega) dX1_evacuate_35 ?_
    refine h1_s3 (pc := 36) F (by omega) dX1_evacuate_36 ?_
    refine hx_iconst (pc := 37) F dX1_evacuate_37 kc_i0 ?_
    refine hx_istore (pc := 38) (lv' := [(0, .ref (hg_h G)), (1, .int (nI r)), (2, .int (nI (r - 1))), (3, .int (nI (cf_bs σ))), (4, .int (nI 0))]) F dX1_evacuate_38 (by decide) [1, 2, 3, 4, 0] rfl ?_
    have L40 : ∀ (n40 : Nat) (f : Nat) (τ : hs_S), f + n40 = 3 → it_f (cf_cp (cf_bs σ) (r - 1)) n40 f τ = cf_e2 σ r → hx_W X mX1_evacuate (V1 G) τ 40 [(0, .ref (hg_h G)), (1, .int (nI r)), (2, .int (nI (r - 1))), (3, .int (nI (cf_bs σ))), (4, .int (nI f))] [] := by
      intro n40
      induction n40 with
      | zero =>
        intro f τ hi40 hf40
        have hz40 : f = 3 := by omega
        have hs40 : τ = cf_e2 σ r := hf40
        refine hx_as (σ' := cf_e2 σ r) (lv' := [(0, .ref (hg_h G)), (1, .int (nI r)), (2, .int (nI (r - 1))), (3, .int (nI (cf_bs σ))), (4, .int (nI 3))]) hs40 rfl (by rw [hz40]) rfl ?_
        refine hx_iload (pc := 40) F dX1_evacuate_40 4 rfl ?_
        refine hx_iconst (pc := 42) F dX1_evacuate_42 kc_i3 ?_
        refine hx_icmp_ge (pc := 43) (tgt := 74) F (by omega) (by omega) dX1_evacuate_43 (by decide) (fun h43 => ?_) (fun h43 => absurd h43 (by omega))
        refine hx_aload_n (pc := 74) F dX1_evacuate_74 rfl 0 rfl ?_
        refine h1_g10 (pc := 75) F rfl dX1_evacuate_75 ?_
        refine hx_iload_n (pc := 78) F dX1_evacuate_78 rfl 2 rfl ?_
        refine hx_iload_n (pc := 79) F dX1_evacuate_79 rfl 3 rfl ?_
        refine hx_iconst (pc := 80) F dX1_evacuate_80 kc_i1 ?_
        refine hx_iadd (pc := 81) F dX1_evacuate_81 ?_
        refine h1_s10 (pc := 82) F (by omega) dX1_evacuate_82 ?_
        refine hx_aload_n (pc := 83) F dX1_evacuate_83 rfl 0 rfl ?_
        refine h1_g12 (pc := 84) F rfl dX1_evacuate_84 ?_
        refine hx_aload_n (pc := 87) F dX1_evacuate_87 rfl 0 rfl ?_
        refine h1_g11 (pc := 88) F rfl dX1_evacuate_88 ?_
        refine hx_topN ((cf_e2 σ r) 11 0) rfl ?_
        refine hx_iload_n (pc := 91) F dX1_evacuate_91 rfl 3 rfl ?_
        refine h1_s12 (pc := 92) F (by omega) dX1_evacuate_92 ?_
        refine hx_aload_n (pc := 93) F dX1_evacuate_93 rfl 0 rfl ?_
        refine hx_dup (pc := 94) F dX1_evacuate_94 rfl ?_
        refine h1_g11 (pc := 95) F rfl dX1_evacuate_95 ?_
        refine hx_topN ((cf_e2 σ r) 11 0) rfl ?_
        refine hx_iconst (pc := 98) F dX1_evacuate_98 kc_i1 ?_
        refine hx_iadd (pc := 99) F dX1_evacuate_99 ?_
        refine h1_p11 (pc := 100) F rfl dX1_evacuate_100 ?_
        refine hx_iload_n (pc := 103) F dX1_evacuate_103 rfl 3 rfl ?_
        refine hx_iconst (pc := 104) F dX1_evacuate_104 kc_i1 ?_
        refine hx_iadd (pc := 105) F dX1_evacuate_105 ?_
        exact hx_iret (pc := 106) F E rfl rfl ⟨congrArg nI (Eq.symm (if_pos h10 : cf_er σ r = cf_bs σ + 1)), Eq.symm (if_pos h10 : cf_ev σ r = cf_e4 σ r)⟩ dX1_evacuate_106
      | succ n40 ih40 =>
        intro f τ hi40 hf40
        have hf40 : it_f (cf_cp (cf_bs σ) (r - 1)) n40 (f + 1) (cf_cp (cf_bs σ) (r - 1) f τ) = cf_e2 σ r := hf40
        refine hx_iload (pc := 40) F dX1_evacuate_40 4 rfl ?_
        refine hx_iconst (pc := 42) F dX1_evacuate_42 kc_i3 ?_
        refine hx_icmp_ge (pc := 43) (tgt := 74) F (by omega) (by omega) dX1_evacuate_43 (by decide) (fun h43 => absurd h43 (by omega)) (fun h43 => ?_)
        refine hx_aload_n (pc := 46) F dX1_evacuate_46 rfl 0 rfl ?_
        refine h1_g4 (pc := 47) F rfl dX1_evacuate_47 ?_
        refine hx_iload_n (pc := 50) F dX1_evacuate_50 rfl 3 rfl ?_
        refine hx_iconst (pc := 51) F dX1_evacuate_51 kc_i3 ?_
        refine hx_imul (pc := 52) F dX1_evacuate_52 ?_
        refine hx_iload (pc := 53) F dX1_evacuate_53 4 rfl ?_
        refine hx_iadd (pc := 55) F dX1_evacuate_55 ?_
        refine hx_aload_n (pc := 56) F dX1_evacuate_56 rfl 0 rfl ?_
        refine h1_g4 (pc := 57) F rfl dX1_evacuate_57 ?_
        refine hx_iload_n (pc := 60) F dX1_evacuate_60 rfl 2 rfl ?_
        refine hx_iconst (pc := 61) F dX1_evacuate_61 kc_i3 ?_
        refine hx_imul (pc := 62) F dX1_evacuate_62 ?_
        refine hx_iload (pc := 63) F dX1_evacuate_63 4 rfl ?_
        refine hx_iadd (pc := 65) F dX1_evacuate_65 ?_
        refine h1_l4 (pc := 66) F (by omega) dX1_evacuate_66 ?_
        refine h1_s4 (pc := 67) F (by omega) dX1_evacuate_67 ?_
        refine hx_iinc (pc := 68) (lv' := [(0, .ref (hg_h G)), (1, .int (nI r)), (2, .int (nI (r - 1))), (3, .int (nI (cf_bs σ))), (4, .int (nI (f + 1)))]) F dX1_evacuate_68 4 rfl (hx_inc1 _) (by decide) [1, 2, 3, 4, 0] rfl ?_
        refine hx_goto (pc := 71) (tgt := 40) F dX1_evacuate_71 (by decide) ?_
        have e40 : cf_cp (cf_bs σ) (r - 1) f τ = (hs_st τ 4 (((cf_bs σ) * 3) + f) (τ 4 (((r - 1) * 3) + f))) := rfl
        rw [e40] at hf40
        exact ih40 (f + 1) _ (by omega) hf40
    exact L40 (3) 0 (cf_e1 σ r) (by omega) rfl
  · refine hx_aload_n (pc := 13) F dX1_evacuate_13 rfl 0 rfl ?_
    refine h1_g10 (pc := 14) F rfl dX1_evacuate_14 ?_
    refine hx_iload_n (pc := 17) F dX1_evacuate_17 rfl 2 rfl ?_
    refine h1_l10 (pc := 18) F (by omega) dX1_evacuate_18 ?_
    exact hx_iret (pc := 19) F E rfl rfl ⟨congrArg nI (by unfold cf_er; (repeat' split) <;> first | (exfalso; omega) | rfl | contradiction), (by unfold cf_ev; (repeat' split) <;> first | (exfalso; omega) | rfl | contradiction)⟩ dX1_evacuate_19
set_option maxHeartbeats 4000000 in
theorem ct_X1_fixFields (l : Launch) (G : hx_G) (σ : hs_S) (s : Nat) (b : Nat) (hk : ck_fix σ s b) : hx_cV l yX1_fixFields mX1_fixFields (V1 G) σ [.ref (hg_h G), .int (nI s), .int (nI b)] (cf_fix σ s b) := by
  refine hx_enterV (by decide +kernel) rfl (Nat.le_of_ble_eq_true rfl) (fun X E F => ?_)
  show hx_W X mX1_fixFields (V1 G) σ 0 [(0, .ref (hg_h G)), (1, .int (nI s)), (2, .int (nI b))] []
  obtain ⟨hk1, hk2, hk3⟩ := hk
  refine hx_iconst (pc := 0) F dX1_fixFields_0 kc_i0 ?_
  refine hx_istore_n (pc := 1) (lv' := [(0, .ref (hg_h G)), (1, .int (nI s)), (2, .int (nI b)), (3, .int (nI 0))]) F dX1_fixFields_1 rfl (by decide) [1, 2, 3, 0] rfl ?_
  have L2 : ∀ (n2 : Nat) (f : Nat) (τ : hs_S), f + n2 = 3 → it_f (cf_fx s b) n2 f τ = cf_fix σ s b → it_k (ck_fx s b) (cf_fx s b) n2 f τ → hx_W X mX1_fixFields (V1 G) τ 2 [(0, .ref (hg_h G)), (1, .int (nI s)), (2, .int (nI b)), (3, .int (nI f))] [] := by
    intro n2
    induction n2 with
    | zero =>
      intro f τ hi2 hf2 hk2
      have hz2 : f = 3 := by omega
      have hs2 : τ = cf_fix σ s b := hf2
      refine hx_as (σ' := cf_fix σ s b) (lv' := [(0, .ref (hg_h G)), (1, .int (nI s)), (2, .int (nI b)), (3, .int (nI 3))]) hs2 rfl (by rw [hz2]) rfl ?_
      refine hx_iload_n (pc := 2) F dX1_fixFields_2 rfl 3 rfl ?_
      refine hx_iconst (pc := 3) F dX1_fixFields_3 kc_i3 ?_
      refine hx_icmp_ge (pc := 4) (tgt := 65) F (by omega) (by omega) dX1_fixFields_4 (by decide) (fun h4 => ?_) (fun h4 => absurd h4 (by omega))
      exact hx_vret (pc := 65) F E rfl rfl dX1_fixFields_65
    | succ n2 ih2 =>
      intro f τ hi2 hf2 hk2
      obtain ⟨hj2, hk2⟩ := hk2
      have hf2 : it_f (cf_fx s b) n2 (f + 1) (cf_fx s b f τ) = cf_fix σ s b := hf2
      refine hx_iload_n (pc := 2) F dX1_fixFields_2 rfl 3 rfl ?_
      refine hx_iconst (pc := 3) F dX1_fixFields_3 kc_i3 ?_
      refine hx_icmp_ge (pc := 4) (tgt := 65) F (by omega) (by omega) dX1_fixFields_4 (by decide) (fun h4 => absurd h4 (by omega)) (fun h4 => ?_)
      obtain ⟨hj3, hj4, hj5⟩ := hj2
      refine hx_iload_n (pc := 7) F dX1_fixFields_7 rfl 1 rfl ?_
      refine hx_iconst (pc := 8) F dX1_fixFields_8 kc_i3 ?_
      refine hx_imul (pc := 9) F dX1_fixFields_9 ?_
      refine hx_iload_n (pc := 10) F dX1_fixFields_10 rfl 3 rfl ?_
      refine hx_iadd (pc := 11) F dX1_fixFields_11 ?_
      refine hx_istore (pc := 12) (lv' := [(0, .ref (hg_h G)), (1, .int (nI s)), (2, .int (nI b)), (3, .int (nI f)), (4, .int (nI ((s * 3) + f)))]) F dX1_fixFields_12 (by decide) [1, 2, 3, 4, 0] rfl ?_
      refine hx_aload_n (pc := 14) F dX1_fixFields_14 rfl 0 rfl ?_
      refine hx_aload_n (pc := 15) F dX1_fixFields_15 rfl 0 rfl ?_
      refine h1_g4 (pc := 16) F rfl dX1_fixFields_16 ?_
      refine hx_iload (pc := 19) F dX1_fixFields_19 4 rfl ?_
      refine h1_l4 (pc := 21) F (by omega) dX1_fixFields_21 ?_
      refine hx_iload_n (pc := 22) F dX1_fixFields_22 rfl 2 rfl ?_
      refine hc_X1_within (pc := 23) F rfl (by decide) (ct_X1_within _ G τ (τ 4 ((s * 3) + f)) b ⟨hj3, by omega⟩) (Nat.le_of_ble_eq_true rfl) dX1_fixFields_23 ?_
      refine hx_if_eq (pc := 26) (tgt := 47) F (cf_wi_lt _ _) dX1_fixFields_26 (by decide) (fun h26 => ?_) (fun h26 => ?_)
      · have hx1 : cf_x1 s b f τ = τ := if_pos h26
        rw [hx1] at hj5
        refine hx_aload_n (pc := 47) F dX1_fixFields_47 rfl 0 rfl ?_
        refine hx_iload_n (pc := 48) F dX1_fixFields_48 rfl 1 rfl ?_
        refine hx_aload_n (pc := 49) F dX1_fixFields_49 rfl 0 rfl ?_
        refine h1_g4 (pc := 50) F rfl dX1_fixFields_50 ?_
        refine hx_iload (pc := 53) F dX1_fixFields_53 4 rfl ?_
        refine h1_l4 (pc := 55) F (by omega) dX1_fixFields_55 ?_
        refine hc_X1_remember (pc := 56) F rfl (by decide) (ct_X1_remember _ G τ s (τ 4 ((s * 3) + f)) ⟨hk1, hj5⟩) (Nat.le_of_ble_eq_true rfl) dX1_fixFields_56 ?_
        refine hx_iinc (pc := 59) (lv' := [(0, .ref (hg_h G)), (1, .int (nI s)), (2, .int (nI b)), (3, .int (nI (f + 1))), (4, .int (nI ((s * 3) + f)))]) F dX1_fixFields_59 3 rfl (hx_inc1 _) (by decide) [1, 2, 3, 0, 4] rfl ?_
        refine hx_goto (pc := 62) (tgt := 2) F dX1_fixFields_62 (by decide) ?_
        refine hx_sub [0, 1, 2, 3] (lv' := [(0, .ref (hg_h G)), (1, .int (nI s)), (2, .int (nI b)), (3, .int (nI (f + 1)))]) rfl ?_
        have e2 : cf_fx s b f τ = cf_rem τ s (τ 4 ((s * 3) + f)) := (by unfold cf_fx; rw [hx1]; try rw [hs_same])
        rw [e2] at hf2 hk2
        exact ih2 (f + 1) _ (by omega) hf2 hk2
      · have hx1 : cf_x1 s b f τ = hs_st (cf_ev τ (τ 4 (s * 3 + f))) 4 (s * 3 + f) (cf_er τ (τ 4 (s * 3 + f))) := if_neg h26
        rw [hx1, hs_same] at hj5
        refine hx_aload_n (pc := 29) F dX1_fixFields_29 rfl 0 rfl ?_
        refine h1_g4 (pc := 30) F rfl dX1_fixFields_30 ?_
        refine hx_iload (pc := 33) F dX1_fixFields_33 4 rfl ?_
        refine hx_aload_n (pc := 35) F dX1_fixFields_35 rfl 0 rfl ?_
        refine hx_aload_n (pc := 36) F dX1_fixFields_36 rfl 0 rfl ?_
        refine h1_g4 (pc := 37) F rfl dX1_fixFields_37 ?_
        refine hx_iload (pc := 40) F dX1_fixFields_40 4 rfl ?_
        refine h1_l4 (pc := 42) F (by omega) dX1_fixFields_42 ?_
        refine hc_X1_evacuate (pc := 43) F rfl (by decide) (ct_X1_evacuate _ G τ (τ 4 ((s * 3) + f)) (hj4 h26)) (Nat.le_of_ble_eq_true rfl) dX1_fixFields_43 ?_
        refine h1_s4 (pc := 46) F (by omega) dX1_fixFields_46 ?_
        refine hx_aload_n (pc := 47) F dX1_fixFields_47 rfl 0 rfl ?_
        refine hx_iload_n (pc := 48) F dX1_fixFields_48 rfl 1 rfl ?_
        refine hx_aload_n (pc := 49) F dX1_fixFields_49 rfl 0 rfl ?_
        refine h1_g4 (pc := 50) F rfl dX1_fixFields_50 ?_
        refine hx_iload (pc := 53) F dX1_fixFields_53 4 rfl ?_
        refine h1_l4 (pc := 55) F (by omega) dX1_fixFields_55 ?_
        refine hx_topN (cf_er τ (τ 4 ((s * 3) + f))) (hs_same _ _ _ _) ?_
        refine hc_X1_remember (pc := 56) F rfl (by decide) (ct_X1_remember _ G (hs_st (cf_ev τ (τ 4 ((s * 3) + f))) 4 ((s * 3) + f) (cf_er τ (τ 4 ((s * 3) + f)))) s (cf_er τ (τ 4 ((s * 3) + f))) ⟨hk1, hj5⟩) (Nat.le_of_ble_eq_true rfl) dX1_fixFields_56 ?_
        refine hx_iinc (pc := 59) (lv' := [(0, .ref (hg_h G)), (1, .int (nI s)), (2, .int (nI b)), (3, .int (nI (f + 1))), (4, .int (nI ((s * 3) + f)))]) F dX1_fixFields_59 3 rfl (hx_inc1 _) (by decide) [1, 2, 3, 0, 4] rfl ?_
        refine hx_goto (pc := 62) (tgt := 2) F dX1_fixFields_62 (by decide) ?_
        refine hx_sub [0, 1, 2, 3] (lv' := [(0, .ref (hg_h G)), (1, .int (nI s)), (2, .int (nI b)), (3, .int (nI (f + 1)))]) rfl ?_
        have e2 : cf_fx s b f τ = cf_rem (hs_st (cf_ev τ (τ 4 ((s * 3) + f))) 4 ((s * 3) + f) (cf_er τ (τ 4 ((s * 3) + f)))) s (cf_er τ (τ 4 ((s * 3) + f))) := (by unfold cf_fx; rw [hx1]; try rw [hs_same])
        rw [e2] at hf2 hk2
        exact ih2 (f + 1) _ (by omega) hf2 hk2
  exact L2 (3) 0 σ (by omega) rfl hk3
end
section
set_option maxRecDepth 100000
set_option maxHeartbeats 4000000 in
theorem ct_X1_freeBlock (l : Launch) (G : hx_G) (σ : hs_S) (b : Nat) (hk : ck_free σ b) : hx_cV l yX1_freeBlock mX1_freeBlock (V1 G) σ [.ref (hg_h G), .int (nI b)] (cf_free σ b) := by
  refine hx_enterV (by decide +kernel) rfl (Nat.le_of_ble_eq_true rfl) (fun X E F => ?_)
  show hx_W X mX1_freeBlock (V1 G) σ 0 [(0, .ref (hg_h G)), (1, .int (nI b))] []
  obtain ⟨hk1, hk2, hk3⟩ := hk
  refine hx_iconst (pc := 0) F dX1_freeBlock_0 kc_i0 ?_
  refine hx_istore_n (pc := 1) (lv' := [(0, .ref (hg_h G)), (1, .int (nI b)), (2, .int (nI 0))]) F dX1_freeBlock_1 rfl (by decide) [1, 2, 0] rfl ?_
  refine hx_iconst (pc := 2) F dX1_freeBlock_2 kc_i0 ?_
  refine hx_istore_n (pc := 3) (lv' := [(0, .ref (hg_h G)), (1, .int (nI b)), (2, .int (nI 0)), (3, .int (nI 0))]) F dX1_freeBlock_3 rfl (by decide) [1, 2, 3, 0] rfl ?_
  have L4 : ∀ (n4 : Nat) (i : Nat) (κ : Nat) (τ : hs_S), i + n4 = σ 5 0 → it_f (cf_f1 b) n4 i (κ, τ) = cf_fu σ b → it_k (ck_f1 b) (cf_f1 b) n4 i (κ, τ) → τ 5 0 = σ 5 0 → hx_W X mX1_freeBlock (V1 G) τ 4 [(0, .ref (hg_h G)), (1, .int (nI b)), (2, .int (nI κ)), (3, .int (nI i))] [] := by
    intro n4
    induction n4 with
    | zero =>
      intro i κ τ hi4 hf4 hk4 hN4
      have hf4 : (κ, τ) = cf_fu σ b := hf4
      have hκ : κ = (cf_fu σ b).1 := by rw [← hf4]
      have hτ : τ = (cf_fu σ b).2 := by rw [← hf4]
      rw [hτ] at hN4
      refine hx_as (σ' := (cf_fu σ b).2) (lv' := [(0, .ref (hg_h G)), (1, .int (nI b)), (2, .int (nI ((cf_fu σ b).1))), (3, .int (nI i))]) hτ rfl (by rw [hκ]) rfl ?_
      refine hx_iload_n (pc := 4) F dX1_freeBlock_4 rfl 3 rfl ?_
      refine hx_aload_n (pc := 5) F dX1_freeBlock_5 rfl 0 rfl ?_
      refine h1_g5 (pc := 6) F rfl dX1_freeBlock_6 ?_
      refine hx_icmp_ge (pc := 9) (tgt := 43) F (by omega) (by omega) dX1_freeBlock_9 (by decide) (fun h9 => ?_) (fun h9 => absurd h9 (by omega))
      refine hx_aload_n (pc := 43) F dX1_freeBlock_43 rfl 0 rfl ?_
      refine hx_iload_n (pc := 44) F dX1_freeBlock_44 rfl 2 rfl ?_
      refine h1_p5 (pc := 45) F rfl dX1_freeBlock_45 ?_
      refine hx_iconst (pc := 48) F dX1_freeBlock_48 kc_i0 ?_
      refine hx_istore_n (pc := 49) (lv' := [(0, .ref (hg_h G)), (1, .int (nI b)), (2, .int (nI ((cf_fu σ b).1))), (3, .int (nI 0))]) F dX1_freeBlock_49 rfl (by decide) [1, 2, 3, 0] rfl ?_
      have L50 : ∀ (n50 : Nat) (i : Nat) (τ : hs_S), i + n50 = 8 → it_f (cf_zu b) n50 i τ = it_f (cf_zu b) 8 0 (cf_g1 σ b) → hx_W X mX1_freeBlock (V1 G) τ 50 [(0, .ref (hg_h G)), (1, .int (nI b)), (2, .int (nI ((cf_fu σ b).1))), (3, .int (nI i))] [] := by
        intro n50
        induction n50 with
        | zero =>
          intro i τ hi50 hf50
          have hz50 : i = 8 := by omega
          have hs50 : τ = it_f (cf_zu b) 8 0 (cf_g1 σ b) := hf50
          refine hx_as (σ' := it_f (cf_zu b) 8 0 (cf_g1 σ b)) (lv' := [(0, .ref (hg_h G)), (1, .int (nI b)), (2, .int (nI ((cf_fu σ b).1))), (3, .int (nI 8))]) hs50 rfl (by rw [hz50]) rfl ?_
          refine hx_iload_n (pc := 50) F dX1_freeBlock_50 rfl 3 rfl ?_
          refine hx_bipush (pc := 51) F dX1_freeBlock_51 kc_b8 ?_
          refine hx_icmp_ge (pc := 53) (tgt := 74) F (by omega) (by omega) dX1_freeBlock_53 (by decide) (fun h53 => ?_) (fun h53 => absurd h53 (by omega))
          refine hx_aload_n (pc := 74) F dX1_freeBlock_74 rfl 0 rfl ?_
          refine h1_g9 (pc := 75) F rfl dX1_freeBlock_75 ?_
          refine hx_iload_n (pc := 78) F dX1_freeBlock_78 rfl 1 rfl ?_
          refine hx_lconst (pc := 79) F dX1_freeBlock_79 (v := lN 0) (by decide +kernel) ?_
          refine h1_s9 (pc := 80) F (by omega) dX1_freeBlock_80 ?_
          refine hx_ldc2 (pc := 81) F q165 dX1_freeBlock_81 ?_
          refine hx_topl (lN 255) (by decide +kernel) ?_
          refine hx_iload_n (pc := 84) F dX1_freeBlock_84 rfl 1 rfl ?_
          refine hx_bipush (pc := 85) F dX1_freeBlock_85 kc_b8 ?_
          refine hx_imul (pc := 87) F dX1_freeBlock_87 ?_
          refine hx_lshl (pc := 88) (v := lN (255 * 2 ^ (b * 8))) F dX1_freeBlock_88 (bl_shl _ (by omega)) ?_
          refine hx_lstore_n (pc := 89) (lv' := [(0, .ref (hg_h G)), (1, .int (nI b)), (2, .int (nI ((cf_fu σ b).1))), (3, .long (lN (255 * 2 ^ (b * 8))))]) F dX1_freeBlock_89 rfl (by decide) [1, 2, 3, 0] rfl ?_
          refine hx_iconst (pc := 90) F dX1_freeBlock_90 kc_i0 ?_
          refine hx_istore (pc := 91) (lv' := [(0, .ref (hg_h G)), (1, .int (nI b)), (2, .int (nI ((cf_fu σ b).1))), (3, .long (lN (255 * 2 ^ (b * 8)))), (5, .int (nI 0))]) F dX1_freeBlock_91 (by decide) [1, 2, 3, 4, 0] rfl ?_
          have L93 : ∀ (n93 : Nat) (c : Nat) (τ : hs_S), c + n93 = 8 → it_f (cf_zm b) n93 c τ = cf_free σ b → hx_W X mX1_freeBlock (V1 G) τ 93 [(0, .ref (hg_h G)), (1, .int (nI b)), (2, .int (nI ((cf_fu σ b).1))), (3, .long (lN (255 * 2 ^ (b * 8)))), (5, .int (nI c))] [] := by
            intro n93
            induction n93 with
            | zero =>
              intro c τ hi93 hf93
              have hz93 : c = 8 := by omega
              have hs93 : τ = cf_free σ b := hf93
              refine hx_as (σ' := cf_free σ b) (lv' := [(0, .ref (hg_h G)), (1, .int (nI b)), (2, .int (nI ((cf_fu σ b).1))), (3, .long (lN (255 * 2 ^ (b * 8)))), (5, .int (nI 8))]) hs93 rfl (by rw [hz93]) rfl ?_
              refine hx_iload (pc := 93) F dX1_freeBlock_93 4 rfl ?_
              refine hx_bipush (pc := 95) F dX1_freeBlock_95 kc_b8 ?_
              refine hx_icmp_ge (pc := 97) (tgt := 121) F (by omega) (by omega) dX1_freeBlock_97 (by decide) (fun h97 => ?_) (fun h97 => absurd h97 (by omega))
              exact hx_vret (pc := 121) F E rfl rfl dX1_freeBlock_121
            | succ n93 ih93 =>
              intro c τ hi93 hf93
              have hf93 : it_f (cf_zm b) n93 (c + 1) (cf_zm b c τ) = cf_free σ b := hf93
              refine hx_iload (pc := 93) F dX1_freeBlock_93 4 rfl ?_
              refine hx_bipush (pc := 95) F dX1_freeBlock_95 kc_b8 ?_
              refine hx_icmp_ge (pc := 97) (tgt := 121) F (by omega) (by omega) dX1_freeBlock_97 (by decide) (fun h97 => absurd h97 (by omega)) (fun h97 => ?_)
              refine hx_aload_n (pc := 100) F dX1_freeBlock_100 rfl 0 rfl ?_
              refine h1_g9 (pc := 101) F rfl dX1_freeBlock_101 ?_
              refine hx_iload (pc := 104) F dX1_freeBlock_104 4 rfl ?_
              refine hx_dup2 (pc := 106) F dX1_freeBlock_106 rfl rfl ?_
              refine h1_l9 (pc := 107) F (by omega) dX1_freeBlock_107 ?_
              refine hx_lload_n (pc := 108) F dX1_freeBlock_108 rfl 3 rfl ?_
              refine hx_ldc2 (pc := 109) F q166 dX1_freeBlock_109 ?_
              refine hx_topl (lN 18446744073709551615) (by decide +kernel) ?_
              refine hx_lxor (pc := 112) F dX1_freeBlock_112 ?_
              refine hx_topl (lN ((255 * 2 ^ (b * 8)) ^^^ 18446744073709551615)) (bl_lxor _ _) ?_
              refine hx_land (pc := 113) F dX1_freeBlock_113 ?_
              refine hx_topl (lN ((τ 9 c) &&& ((255 * 2 ^ (b * 8)) ^^^ 18446744073709551615))) (bl_land _ _) ?_
              refine h1_s9 (pc := 114) F (by omega) dX1_freeBlock_114 ?_
              refine hx_iinc (pc := 115) (lv' := [(0, .ref (hg_h G)), (1, .int (nI b)), (2, .int (nI ((cf_fu σ b).1))), (3, .long (lN (255 * 2 ^ (b * 8)))), (5, .int (nI (c + 1)))]) F dX1_freeBlock_115 4 rfl (hx_inc1 _) (by decide) [1, 2, 3, 4, 0] rfl ?_
              refine hx_goto (pc := 118) (tgt := 93) F dX1_freeBlock_118 (by decide) ?_
              have e93 : cf_zm b c τ = (hs_st τ 9 c ((τ 9 c) &&& ((255 * 2 ^ (b * 8)) ^^^ 18446744073709551615))) := rfl
              rw [e93] at hf93
              exact ih93 (c + 1) _ (by omega) hf93
          exact L93 (8) 0 (cf_g2 σ b) (by omega) rfl
        | succ n50 ih50 =>
          intro i τ hi50 hf50
          have hf50 : it_f (cf_zu b) n50 (i + 1) (cf_zu b i τ) = it_f (cf_zu b) 8 0 (cf_g1 σ b) := hf50
          refine hx_iload_n (pc := 50) F dX1_freeBlock_50 rfl 3 rfl ?_
          refine hx_bipush (pc := 51) F dX1_freeBlock_51 kc_b8 ?_
          refine hx_icmp_ge (pc := 53) (tgt := 74) F (by omega) (by omega) dX1_freeBlock_53 (by decide) (fun h53 => absurd h53 (by omega)) (fun h53 => ?_)
          refine hx_aload_n (pc := 56) F dX1_freeBlock_56 rfl 0 rfl ?_
          refine h1_g2 (pc := 57) F rfl dX1_freeBlock_57 ?_
          refine hx_iload_n (pc := 60) F dX1_freeBlock_60 rfl 1 rfl ?_
          refine hx_bipush (pc := 61) F dX1_freeBlock_61 kc_b8 ?_
          refine hx_imul (pc := 63) F dX1_freeBlock_63 ?_
          refine hx_iload_n (pc := 64) F dX1_freeBlock_64 rfl 3 rfl ?_
          refine hx_iadd (pc := 65) F dX1_freeBlock_65 ?_
          refine hx_iconst (pc := 66) F dX1_freeBlock_66 kc_i0 ?_
          refine h1_s2 (pc := 67) F (by omega) (by omega) dX1_freeBlock_67 ?_
          refine hx_iinc (pc := 68) (lv' := [(0, .ref (hg_h G)), (1, .int (nI b)), (2, .int (nI ((cf_fu σ b).1))), (3, .int (nI (i + 1)))]) F dX1_freeBlock_68 3 rfl (hx_inc1 _) (by decide) [1, 2, 3, 0] rfl ?_
          refine hx_goto (pc := 71) (tgt := 50) F dX1_freeBlock_71 (by decide) ?_
          have e50 : cf_zu b i τ = (hs_st τ 2 ((b * 8) + i) 0) := rfl
          rw [e50] at hf50
          exact ih50 (i + 1) _ (by omega) hf50
      exact L50 (8) 0 (cf_g1 σ b) (by omega) rfl
    | succ n4 ih4 =>
      intro i κ τ hi4 hf4 hk4 hN4
      have hf4 : it_f (cf_f1 b) n4 (i + 1) (cf_f1 b i (κ, τ)) = cf_fu σ b := hf4
      obtain ⟨hj4, hk4⟩ := hk4
      have hk4 : it_k (ck_f1 b) (cf_f1 b) n4 (i + 1) (cf_f1 b i (κ, τ)) := hk4
      have hj5 : κ < 8 := hj4.1
      have hj6 : τ 6 i < 4294967296 := hj4.2
      refine hx_iload_n (pc := 4) F dX1_freeBlock_4 rfl 3 rfl ?_
      refine hx_aload_n (pc := 5) F dX1_freeBlock_5 rfl 0 rfl ?_
      refine h1_g5 (pc := 6) F rfl dX1_freeBlock_6 ?_
      refine hx_icmp_ge (pc := 9) (tgt := 43) F (by omega) (by omega) dX1_freeBlock_9 (by decide) (fun h9 => absurd h9 (by omega)) (fun h9 => ?_)
      refine hx_aload_n (pc := 12) F dX1_freeBlock_12 rfl 0 rfl ?_
      refine h1_g6 (pc := 13) F rfl dX1_freeBlock_13 ?_
      refine hx_iload_n (pc := 16) F dX1_freeBlock_16 rfl 3 rfl ?_
      refine h1_l6 (pc := 17) F (by omega) dX1_freeBlock_17 ?_
      refine hx_iload_n (pc := 18) F dX1_freeBlock_18 rfl 1 rfl ?_
      refine hx_icmp_eq (pc := 19) (tgt := 37) F (by omega) (by omega) dX1_freeBlock_19 (by decide) (fun h19 => ?_) (fun h19 => ?_)
      · refine hx_iinc (pc := 37) (lv' := [(0, .ref (hg_h G)), (1, .int (nI b)), (2, .int (nI κ)), (3, .int (nI (i + 1)))]) F dX1_freeBlock_37 3 rfl (hx_inc1 _) (by decide) [1, 2, 3, 0] rfl ?_
        refine hx_goto (pc := 40) (tgt := 4) F dX1_freeBlock_40 (by decide) ?_
        have e4 : cf_f1 b i (κ, τ) = (κ, τ) := if_pos h19
        rw [e4] at hf4 hk4
        exact ih4 (i + 1) _ _ (by omega) hf4 hk4 hN4
      · refine hx_aload_n (pc := 22) F dX1_freeBlock_22 rfl 0 rfl ?_
        refine h1_g6 (pc := 23) F rfl dX1_freeBlock_23 ?_
        refine hx_iload_n (pc := 26) F dX1_freeBlock_26 rfl 2 rfl ?_
        refine hx_aload_n (pc := 27) F dX1_freeBlock_27 rfl 0 rfl ?_
        refine h1_g6 (pc := 28) F rfl dX1_freeBlock_28 ?_
        refine hx_iload_n (pc := 31) F dX1_freeBlock_31 rfl 3 rfl ?_
        refine h1_l6 (pc := 32) F (by omega) dX1_freeBlock_32 ?_
        refine h1_s6 (pc := 33) F (by omega) dX1_freeBlock_33 ?_
        refine hx_iinc (pc := 34) (lv' := [(0, .ref (hg_h G)), (1, .int (nI b)), (2, .int (nI (κ + 1))), (3, .int (nI i))]) F dX1_freeBlock_34 2 rfl (hx_inc1 _) (by decide) [1, 2, 0, 3] rfl ?_
        refine hx_iinc (pc := 37) (lv' := [(0, .ref (hg_h G)), (1, .int (nI b)), (2, .int (nI (κ + 1))), (3, .int (nI (i + 1)))]) F dX1_freeBlock_37 3 rfl (hx_inc1 _) (by decide) [1, 2, 3, 0] rfl ?_
        refine hx_goto (pc := 40) (tgt := 4) F dX1_freeBlock_40 (by decide) ?_
        have e4 : cf_f1 b i (κ, τ) = (κ + 1, (hs_st τ 6 κ (τ 6 i))) := if_neg h19
        rw [e4] at hf4 hk4
        exact ih4 (i + 1) _ _ (by omega) hf4 hk4 hN4
  exact L4 (σ 5 0) 0 0 σ (by omega) rfl hk3 rfl
set_option maxHeartbeats 4000000 in
theorem ct_X1_collectBlock (l : Launch) (G : hx_G) (σ : hs_S) (b : Nat) (hk : ck_cb σ b) : hx_cV l yX1_collectBlock mX1_collectBlock (V1 G) σ [.ref (hg_h G), .int (nI b)] (cf_cb σ b) := by
  refine hx_enterV (by decide +kernel) rfl (Nat.le_of_ble_eq_true rfl) (fun X E F => ?_)
  show hx_W X mX1_collectBlock (V1 G) σ 0 [(0, .ref (hg_h G)), (1, .int (nI b))] []
  obtain ⟨hk1, hk2, hk3, hk4, hk5, hk6⟩ := hk
  refine hx_aload_n (pc := 0) F dX1_collectBlock_0 rfl 0 rfl ?_
  refine hx_iconst (pc := 1) F dX1_collectBlock_1 kc_i0 ?_
  refine h1_p11 (pc := 2) F rfl dX1_collectBlock_2 ?_
  refine hx_iconst (pc := 5) F dX1_collectBlock_5 kc_i0 ?_
  refine hx_istore_n (pc := 6) (lv' := [(0, .ref (hg_h G)), (1, .int (nI b)), (2, .int (nI 0))]) F dX1_collectBlock_6 rfl (by decide) [1, 2, 0] rfl ?_
  have L7 : ∀ (n7 : Nat) (i : Nat) (τ : hs_S), i + n7 = 64 → it_f cf_z10 n7 i τ = cf_c1 σ → hx_W X mX1_collectBlock (V1 G) τ 7 [(0, .ref (hg_h G)), (1, .int (nI b)), (2, .int (nI i))] [] := by
    intro n7
    induction n7 with
    | zero =>
      intro i τ hi7 hf7
      have hz7 : i = 64 := by omega
      have hs7 : τ = cf_c1 σ := hf7
      refine hx_as (σ' := cf_c1 σ) (lv' := [(0, .ref (hg_h G)), (1, .int (nI b)), (2, .int (nI 64))]) hs7 rfl (by rw [hz7]) rfl ?_
      refine hx_iload_n (pc := 7) F dX1_collectBlock_7 rfl 2 rfl ?_
      refine hx_bipush (pc := 8) F dX1_collectBlock_8 kc_b64 ?_
      refine hx_icmp_ge (pc := 10) (tgt := 26) F (by omega) (by omega) dX1_collectBlock_10 (by decide) (fun h10 => ?_) (fun h10 => absurd h10 (by omega))
      refine hx_iconst (pc := 26) F dX1_collectBlock_26 kc_i0 ?_
      refine hx_istore_n (pc := 27) (lv' := [(0, .ref (hg_h G)), (1, .int (nI b)), (2, .int (nI 0))]) F dX1_collectBlock_27 rfl (by decide) [1, 2, 0] rfl ?_
      have L28 : ∀ (n28 : Nat) (r : Nat) (τ : hs_S), r + n28 = 8 → it_f (cf_rt b) n28 r τ = cf_c2 σ b → it_k (ck_rt b) (cf_rt b) n28 r τ → hx_W X mX1_collectBlock (V1 G) τ 28 [(0, .ref (hg_h G)), (1, .int (nI b)), (2, .int (nI r))] [] := by
        intro n28
        induction n28 with
        | zero =>
          intro r τ hi28 hf28 hk28
          have hz28 : r = 8 := by omega
          have hs28 : τ = cf_c2 σ b := hf28
          refine hx_as (σ' := cf_c2 σ b) (lv' := [(0, .ref (hg_h G)), (1, .int (nI b)), (2, .int (nI 8))]) hs28 rfl (by rw [hz28]) rfl ?_
          refine hx_iload_n (pc := 28) F dX1_collectBlock_28 rfl 2 rfl ?_
          refine hx_bipush (pc := 29) F dX1_collectBlock_29 kc_b8 ?_
          refine hx_icmp_ge (pc := 31) (tgt := 70) F (by omega) (by omega) dX1_collectBlock_31 (by decide) (fun h31 => ?_) (fun h31 => absurd h31 (by omega))
          refine hx_aload_n (pc := 70) F dX1_collectBlock_70 rfl 0 rfl ?_
          refine h1_g9 (pc := 71) F rfl dX1_collectBlock_71 ?_
          refine hx_iload_n (pc := 74) F dX1_collectBlock_74 rfl 1 rfl ?_
          refine h1_l9 (pc := 75) F (by omega) dX1_collectBlock_75 ?_
          refine hx_lstore_n (pc := 76) (lv' := [(0, .ref (hg_h G)), (1, .int (nI b)), (2, .long (lN ((cf_c2 σ b) 9 b)))]) F dX1_collectBlock_76 rfl (by decide) [1, 2, 0] rfl ?_
          refine hx_iconst (pc := 77) F dX1_collectBlock_77 kc_i0 ?_
          refine hx_istore (pc := 78) (lv' := [(0, .ref (hg_h G)), (1, .int (nI b)), (2, .long (lN ((cf_c2 σ b) 9 b))), (4, .int (nI 0))]) F dX1_collectBlock_78 (by decide) [1, 2, 3, 0] rfl ?_
          have L80 : ∀ (n80 : Nat) (s : Nat) (τ : hs_S), s + n80 = 64 → it_f (cf_sr (cf_c2 σ b 9 b) b) n80 s τ = cf_c3 σ b → it_k (ck_sr (cf_c2 σ b 9 b) b) (cf_sr (cf_c2 σ b 9 b) b) n80 s τ → hx_W X mX1_collectBlock (V1 G) τ 80 [(0, .ref (hg_h G)), (1, .int (nI b)), (2, .long (lN ((cf_c2 σ b) 9 b))), (4, .int (nI s))] [] := by
            intro n80
            induction n80 with
            | zero =>
              intro s τ hi80 hf80 hk80
              have hz80 : s = 64 := by omega
              have hs80 : τ = cf_c3 σ b := hf80
              refine hx_as (σ' := cf_c3 σ b) (lv' := [(0, .ref (hg_h G)), (1, .int (nI b)), (2, .long (lN ((cf_c2 σ b) 9 b))), (4, .int (nI 64))]) hs80 rfl (by rw [hz80]) rfl ?_
              refine hx_iload (pc := 80) F dX1_collectBlock_80 3 rfl ?_
              refine hx_bipush (pc := 82) F dX1_collectBlock_82 kc_b64 ?_
              refine hx_icmp_ge (pc := 84) (tgt := 130) F (by omega) (by omega) dX1_collectBlock_84 (by decide) (fun h84 => ?_) (fun h84 => absurd h84 (by omega))
              refine hx_iconst (pc := 130) F dX1_collectBlock_130 kc_i0 ?_
              refine hx_istore (pc := 131) (lv' := [(0, .ref (hg_h G)), (1, .int (nI b)), (2, .long (lN ((cf_c2 σ b) 9 b))), (4, .int (nI 0))]) F dX1_collectBlock_131 (by decide) [1, 2, 3, 0] rfl ?_
              have L133 : ∀ (n133 : Nat) (i : Nat) (τ : hs_S), i + n133 = 64 → cf_cq b n133 i τ = cf_c4 σ b → ck_cq b n133 i τ → hx_W X mX1_collectBlock (V1 G) τ 133 [(0, .ref (hg_h G)), (1, .int (nI b)), (2, .long (lN ((cf_c2 σ b) 9 b))), (4, .int (nI i))] [] := by
                intro n133
                induction n133 with
                | zero =>
                  intro i τ hi133 hf133 hk133
                  have hs133 : τ = cf_c4 σ b := hf133
                  have hk133 : τ 11 0 < 2147483648 := hk133
                  refine hx_iload (pc := 133) F dX1_collectBlock_133 3 rfl ?_
                  refine hx_aload_n (pc := 135) F dX1_collectBlock_135 rfl 0 rfl ?_
                  refine h1_g11 (pc := 136) F rfl dX1_collectBlock_136 ?_
                  refine hx_icmp_ge (pc := 139) (tgt := 167) F (by omega) (by omega) dX1_collectBlock_139 (by decide) (fun h139 => ?_) (fun h139 => ?_)
                  · refine hx_as (σ' := (cf_c4 σ b)) hs133 rfl rfl rfl ?_
                    refine hx_aload_n (pc := 167) F dX1_collectBlock_167 rfl 0 rfl ?_
                    refine hx_iload_n (pc := 168) F dX1_collectBlock_168 rfl 1 rfl ?_
                    refine hc_X1_freeBlock (pc := 169) F rfl (by decide) (ct_X1_freeBlock _ G (cf_c4 σ b) b hk6) (Nat.le_of_ble_eq_true rfl) dX1_collectBlock_169 ?_
                    exact hx_vret (pc := 172) F E rfl rfl dX1_collectBlock_172
                  · refine hx_iload (pc := 142) F dX1_collectBlock_142 3 rfl ?_
                    refine hx_bipush (pc := 144) F dX1_collectBlock_144 kc_b64 ?_
                    refine hx_icmp_ge (pc := 146) (tgt := 167) F (by omega) (by omega) dX1_collectBlock_146 (by decide) (fun h146 => ?_) (fun h146 => absurd h146 (by omega))
                    refine hx_as (σ' := (cf_c4 σ b)) hs133 rfl rfl rfl ?_
                    refine hx_aload_n (pc := 167) F dX1_collectBlock_167 rfl 0 rfl ?_
                    refine hx_iload_n (pc := 168) F dX1_collectBlock_168 rfl 1 rfl ?_
                    refine hc_X1_freeBlock (pc := 169) F rfl (by decide) (ct_X1_freeBlock _ G (cf_c4 σ b) b hk6) (Nat.le_of_ble_eq_true rfl) dX1_collectBlock_169 ?_
                    exact hx_vret (pc := 172) F E rfl rfl dX1_collectBlock_172
                | succ n133 ih133 =>
                  intro i τ hi133 hf133 hk133
                  have hf133 : (if i < τ 11 0 then cf_cq b n133 (i + 1) (cf_fix τ (τ 12 i) b) else τ) = cf_c4 σ b := hf133
                  obtain ⟨hk133, hk134⟩ := hk133
                  refine hx_iload (pc := 133) F dX1_collectBlock_133 3 rfl ?_
                  refine hx_aload_n (pc := 135) F dX1_collectBlock_135 rfl 0 rfl ?_
                  refine h1_g11 (pc := 136) F rfl dX1_collectBlock_136 ?_
                  refine hx_icmp_ge (pc := 139) (tgt := 167) F (by omega) (by omega) dX1_collectBlock_139 (by decide) (fun h139 => ?_) (fun h139 => ?_)
                  · have hs133 : τ = cf_c4 σ b := by rw [← hf133]; exact (if_neg (by omega)).symm
                    refine hx_as (σ' := (cf_c4 σ b)) hs133 rfl rfl rfl ?_
                    refine hx_aload_n (pc := 167) F dX1_collectBlock_167 rfl 0 rfl ?_
                    refine hx_iload_n (pc := 168) F dX1_collectBlock_168 rfl 1 rfl ?_
                    refine hc_X1_freeBlock (pc := 169) F rfl (by decide) (ct_X1_freeBlock _ G (cf_c4 σ b) b hk6) (Nat.le_of_ble_eq_true rfl) dX1_collectBlock_169 ?_
                    exact hx_vret (pc := 172) F E rfl rfl dX1_collectBlock_172
                  · refine hx_iload (pc := 142) F dX1_collectBlock_142 3 rfl ?_
                    refine hx_bipush (pc := 144) F dX1_collectBlock_144 kc_b64 ?_
                    refine hx_icmp_ge (pc := 146) (tgt := 167) F (by omega) (by omega) dX1_collectBlock_146 (by decide) (fun h146 => absurd h146 (by omega)) (fun h146 => ?_)
                    obtain ⟨hk135, hk136⟩ := hk134 h139
                    have hk137 := hk135.1
                    refine hx_aload_n (pc := 149) F dX1_collectBlock_149 rfl 0 rfl ?_
                    refine hx_aload_n (pc := 150) F dX1_collectBlock_150 rfl 0 rfl ?_
                    refine h1_g12 (pc := 151) F rfl dX1_collectBlock_151 ?_
                    refine hx_iload (pc := 154) F dX1_collectBlock_154 3 rfl ?_
                    refine h1_l12 (pc := 156) F (by omega) dX1_collectBlock_156 ?_
                    refine hx_iload_n (pc := 157) F dX1_collectBlock_157 rfl 1 rfl ?_
                    refine hc_X1_fixFields (pc := 158) F rfl (by decide) (ct_X1_fixFields _ G τ (τ 12 i) b hk135) (Nat.le_of_ble_eq_true rfl) dX1_collectBlock_158 ?_
                    refine hx_iinc (pc := 161) (lv' := [(0, .ref (hg_h G)), (1, .int (nI b)), (2, .long (lN ((cf_c2 σ b) 9 b))), (4, .int (nI (i + 1)))]) F dX1_collectBlock_161 3 rfl (hx_inc1 _) (by decide) [1, 2, 3, 0] rfl ?_
                    refine hx_goto (pc := 164) (tgt := 133) F dX1_collectBlock_164 (by decide) ?_
                    exact ih133 (i + 1) _ (by omega) (by rw [← hf133, if_pos h139]) hk136
              exact L133 64 0 (cf_c3 σ b) (by omega) rfl hk5
            | succ n80 ih80 =>
              intro s τ hi80 hf80 hk80
              obtain ⟨hj80, hk80⟩ := hk80
              have hf80 : it_f (cf_sr (cf_c2 σ b 9 b) b) n80 (s + 1) (cf_sr (cf_c2 σ b 9 b) b s τ) = cf_c3 σ b := hf80
              refine hx_iload (pc := 80) F dX1_collectBlock_80 3 rfl ?_
              refine hx_bipush (pc := 82) F dX1_collectBlock_82 kc_b64 ?_
              refine hx_icmp_ge (pc := 84) (tgt := 130) F (by omega) (by omega) dX1_collectBlock_84 (by decide) (fun h84 => absurd h84 (by omega)) (fun h84 => ?_)
              obtain ⟨hj1, hj2⟩ := hj80
              refine hx_lload_n (pc := 87) F dX1_collectBlock_87 rfl 2 rfl ?_
              refine hx_iload (pc := 88) F dX1_collectBlock_88 3 rfl ?_
              refine hx_lushr (pc := 90) F dX1_collectBlock_90 rfl ?_
              refine hx_lconst (pc := 91) F dX1_collectBlock_91 (v := lN 1) (by decide +kernel) ?_
              refine hx_land (pc := 92) F dX1_collectBlock_92 ?_
              refine hx_lconst (pc := 93) F dX1_collectBlock_93 (v := lN 1) (by decide +kernel) ?_
              refine hx_lcmp (pc := 94) F dX1_collectBlock_94 ?_
              refine hx_top (nI (if (cf_c2 σ b 9 b).testBit s = true then 0 else 4294967295)) (bl_bit hk3 (by omega)) ?_
              refine hx_if_ne (pc := 95) (tgt := 124) F (by split <;> omega) dX1_collectBlock_95 (by decide) (fun h95 => ?_) (fun h95 => ?_)
              · have ht : ¬ (cf_c2 σ b 9 b).testBit s = true := fun q => h95 (if_pos q)
                refine hx_iinc (pc := 124) (lv' := [(0, .ref (hg_h G)), (1, .int (nI b)), (2, .long (lN ((cf_c2 σ b) 9 b))), (4, .int (nI (s + 1)))]) F dX1_collectBlock_124 3 rfl (hx_inc1 _) (by decide) [1, 2, 3, 0] rfl ?_
                refine hx_goto (pc := 127) (tgt := 80) F dX1_collectBlock_127 (by decide) ?_
                have e80 : cf_sr (cf_c2 σ b 9 b) b s τ = τ := if_neg ht
                rw [e80] at hf80 hk80
                exact ih80 (s + 1) _ (by omega) hf80 hk80
              · have ht : (cf_c2 σ b 9 b).testBit s = true := by
                  by_cases q : (cf_c2 σ b 9 b).testBit s = true
                  · exact q
                  · rw [if_neg q] at h95; omega
                refine hx_aload_n (pc := 98) F dX1_collectBlock_98 rfl 0 rfl ?_
                refine h1_g2 (pc := 99) F rfl dX1_collectBlock_99 ?_
                refine hx_iload (pc := 102) F dX1_collectBlock_102 3 rfl ?_
                refine h1_l2 (pc := 104) F (by omega) dX1_collectBlock_104 ?_
                refine hx_if_eq (pc := 105) (tgt := 124) F (by omega) dX1_collectBlock_105 (by decide) (fun h105 => ?_) (fun h105 => ?_)
                · refine hx_iinc (pc := 124) (lv' := [(0, .ref (hg_h G)), (1, .int (nI b)), (2, .long (lN ((cf_c2 σ b) 9 b))), (4, .int (nI (s + 1)))]) F dX1_collectBlock_124 3 rfl (hx_inc1 _) (by decide) [1, 2, 3, 0] rfl ?_
                  refine hx_goto (pc := 127) (tgt := 80) F dX1_collectBlock_127 (by decide) ?_
                  have e80 : cf_sr (cf_c2 σ b 9 b) b s τ = τ := (if_pos ht).trans (if_pos h105)
                  rw [e80] at hf80 hk80
                  exact ih80 (s + 1) _ (by omega) hf80 hk80
                · refine hx_iload (pc := 108) F dX1_collectBlock_108 3 rfl ?_
                  refine hx_bipush (pc := 110) F dX1_collectBlock_110 kc_b8 ?_
                  refine hx_idiv (pc := 112) F (by omega) (by decide) (by decide) dX1_collectBlock_112 ?_
                  refine hx_iload_n (pc := 113) F dX1_collectBlock_113 rfl 1 rfl ?_
                  refine hx_icmp_eq (pc := 114) (tgt := 124) F (by omega) (by omega) dX1_collectBlock_114 (by decide) (fun h114 => ?_) (fun h114 => ?_)
                  · refine hx_iinc (pc := 124) (lv' := [(0, .ref (hg_h G)), (1, .int (nI b)), (2, .long (lN ((cf_c2 σ b) 9 b))), (4, .int (nI (s + 1)))]) F dX1_collectBlock_124 3 rfl (hx_inc1 _) (by decide) [1, 2, 3, 0] rfl ?_
                    refine hx_goto (pc := 127) (tgt := 80) F dX1_collectBlock_127 (by decide) ?_
                    have e80 : cf_sr (cf_c2 σ b 9 b) b s τ = τ := (if_pos ht).trans ((if_neg h105).trans (if_pos h114))
                    rw [e80] at hf80 hk80
                    exact ih80 (s + 1) _ (by omega) hf80 hk80
                  · refine hx_aload_n (pc := 117) F dX1_collectBlock_117 rfl 0 rfl ?_
                    refine hx_iload (pc := 118) F dX1_collectBlock_118 3 rfl ?_
                    refine hx_iload_n (pc := 120) F dX1_collectBlock_120 rfl 1 rfl ?_
                    refine hc_X1_fixFields (pc := 121) F rfl (by decide) (ct_X1_fixFields _ G τ s b (hj2 ht h105 h114)) (Nat.le_of_ble_eq_true rfl) dX1_collectBlock_121 ?_
                    refine hx_iinc (pc := 124) (lv' := [(0, .ref (hg_h G)), (1, .int (nI b)), (2, .long (lN ((cf_c2 σ b) 9 b))), (4, .int (nI (s + 1)))]) F dX1_collectBlock_124 3 rfl (hx_inc1 _) (by decide) [1, 2, 3, 0] rfl ?_
                    refine hx_goto (pc := 127) (tgt := 80) F dX1_collectBlock_127 (by decide) ?_
                    have e80 : cf_sr (cf_c2 σ b 9 b) b s τ = cf_fix τ s b := (if_pos ht).trans ((if_neg h105).trans (if_neg h114))
                    rw [e80] at hf80 hk80
                    exact ih80 (s + 1) _ (by omega) hf80 hk80
          exact L80 (64) 0 (cf_c2 σ b) (by omega) rfl hk4
        | succ n28 ih28 =>
          intro r τ hi28 hf28 hk28
          obtain ⟨hj28, hk28⟩ := hk28
          have hf28 : it_f (cf_rt b) n28 (r + 1) (cf_rt b r τ) = cf_c2 σ b := hf28
          refine hx_iload_n (pc := 28) F dX1_collectBlock_28 rfl 2 rfl ?_
          refine hx_bipush (pc := 29) F dX1_collectBlock_29 kc_b8 ?_
          refine hx_icmp_ge (pc := 31) (tgt := 70) F (by omega) (by omega) dX1_collectBlock_31 (by decide) (fun h31 => absurd h31 (by omega)) (fun h31 => ?_)
          obtain ⟨hj1, hj2⟩ := hj28
          refine hx_aload_n (pc := 34) F dX1_collectBlock_34 rfl 0 rfl ?_
          refine hx_aload_n (pc := 35) F dX1_collectBlock_35 rfl 0 rfl ?_
          refine h1_g1 (pc := 36) F rfl dX1_collectBlock_36 ?_
          refine hx_iload_n (pc := 39) F dX1_collectBlock_39 rfl 2 rfl ?_
          refine h1_l1 (pc := 40) F (by omega) dX1_collectBlock_40 ?_
          refine hx_iload_n (pc := 41) F dX1_collectBlock_41 rfl 1 rfl ?_
          refine hc_X1_within (pc := 42) F rfl (by decide) (ct_X1_within _ G τ (τ 1 r) b ⟨hj1, by omega⟩) (Nat.le_of_ble_eq_true rfl) dX1_collectBlock_42 ?_
          refine hx_if_eq (pc := 45) (tgt := 64) F (cf_wi_lt _ _) dX1_collectBlock_45 (by decide) (fun h45 => ?_) (fun h45 => ?_)
          · refine hx_iinc (pc := 64) (lv' := [(0, .ref (hg_h G)), (1, .int (nI b)), (2, .int (nI (r + 1)))]) F dX1_collectBlock_64 2 rfl (hx_inc1 _) (by decide) [1, 2, 0] rfl ?_
            refine hx_goto (pc := 67) (tgt := 28) F dX1_collectBlock_67 (by decide) ?_
            have e28 : cf_rt b r τ = τ := (by unfold cf_rt; (repeat' split) <;> first | (exfalso; omega) | rfl | contradiction)
            rw [e28] at hf28 hk28
            exact ih28 (r + 1) _ (by omega) hf28 hk28
          · refine hx_aload_n (pc := 48) F dX1_collectBlock_48 rfl 0 rfl ?_
            refine h1_g1 (pc := 49) F rfl dX1_collectBlock_49 ?_
            refine hx_iload_n (pc := 52) F dX1_collectBlock_52 rfl 2 rfl ?_
            refine hx_aload_n (pc := 53) F dX1_collectBlock_53 rfl 0 rfl ?_
            refine hx_aload_n (pc := 54) F dX1_collectBlock_54 rfl 0 rfl ?_
            refine h1_g1 (pc := 55) F rfl dX1_collectBlock_55 ?_
            refine hx_iload_n (pc := 58) F dX1_collectBlock_58 rfl 2 rfl ?_
            refine h1_l1 (pc := 59) F (by omega) dX1_collectBlock_59 ?_
            refine hc_X1_evacuate (pc := 60) F rfl (by decide) (ct_X1_evacuate _ G τ (τ 1 r) (hj2 h45)) (Nat.le_of_ble_eq_true rfl) dX1_collectBlock_60 ?_
            refine h1_s1 (pc := 63) F (by omega) dX1_collectBlock_63 ?_
            refine hx_iinc (pc := 64) (lv' := [(0, .ref (hg_h G)), (1, .int (nI b)), (2, .int (nI (r + 1)))]) F dX1_collectBlock_64 2 rfl (hx_inc1 _) (by decide) [1, 2, 0] rfl ?_
            refine hx_goto (pc := 67) (tgt := 28) F dX1_collectBlock_67 (by decide) ?_
            have e28 : cf_rt b r τ = (hs_st (cf_ev τ (τ 1 r)) 1 r (cf_er τ (τ 1 r))) := (by unfold cf_rt; (repeat' split) <;> first | (exfalso; omega) | rfl | contradiction)
            rw [e28] at hf28 hk28
            exact ih28 (r + 1) _ (by omega) hf28 hk28
      exact L28 (8) 0 (cf_c1 σ) (by omega) rfl hk2
    | succ n7 ih7 =>
      intro i τ hi7 hf7
      have hf7 : it_f cf_z10 n7 (i + 1) (cf_z10 i τ) = cf_c1 σ := hf7
      refine hx_iload_n (pc := 7) F dX1_collectBlock_7 rfl 2 rfl ?_
      refine hx_bipush (pc := 8) F dX1_collectBlock_8 kc_b64 ?_
      refine hx_icmp_ge (pc := 10) (tgt := 26) F (by omega) (by omega) dX1_collectBlock_10 (by decide) (fun h10 => absurd h10 (by omega)) (fun h10 => ?_)
      refine hx_aload_n (pc := 13) F dX1_collectBlock_13 rfl 0 rfl ?_
      refine h1_g10 (pc := 14) F rfl dX1_collectBlock_14 ?_
      refine hx_iload_n (pc := 17) F dX1_collectBlock_17 rfl 2 rfl ?_
      refine hx_iconst (pc := 18) F dX1_collectBlock_18 kc_i0 ?_
      refine h1_s10 (pc := 19) F (by omega) dX1_collectBlock_19 ?_
      refine hx_iinc (pc := 20) (lv' := [(0, .ref (hg_h G)), (1, .int (nI b)), (2, .int (nI (i + 1)))]) F dX1_collectBlock_20 2 rfl (hx_inc1 _) (by decide) [1, 2, 0] rfl ?_
      refine hx_goto (pc := 23) (tgt := 7) F dX1_collectBlock_23 (by decide) ?_
      have e7 : cf_z10 i τ = (hs_st τ 10 i 0) := rfl
      rw [e7] at hf7
      exact ih7 (i + 1) _ (by omega) hf7
  exact L7 (64) 0 (hs_st σ 11 0 0) (by omega) rfl
set_option maxHeartbeats 4000000 in
theorem ct_X1_moveWindow (l : Launch) (G : hx_G) (σ : hs_S) (hk : ck_mw σ) : hx_cV l yX1_moveWindow mX1_moveWindow (V1 G) σ [.ref (hg_h G)] (cf_mw σ) := by
  refine hx_enterV (by decide +kernel) rfl (Nat.le_of_ble_eq_true rfl) (fun X E F => ?_)
  show hx_W X mX1_moveWindow (V1 G) σ 0 [(0, .ref (hg_h G))] []
  obtain ⟨hk1, hk2, hk3⟩ := hk
  refine hx_aload_n (pc := 0) F dX1_moveWindow_0 rfl 0 rfl ?_
  refine h1_g5 (pc := 1) F rfl dX1_moveWindow_1 ?_
  refine hx_iconst (pc := 4) F dX1_moveWindow_4 kc_i2 ?_
  refine hx_icmp_lt (pc := 5) (tgt := 17) F (by omega) (by omega) dX1_moveWindow_5 (by decide) (fun h5 => ?_) (fun h5 => ?_)
  · exact hx_vret (pc := 17) F E rfl (by unfold cf_mw; (repeat' split) <;> first | (exfalso; omega) | rfl | contradiction) dX1_moveWindow_17
  · refine hx_aload_n (pc := 8) F dX1_moveWindow_8 rfl 0 rfl ?_
    refine h1_g5 (pc := 9) F rfl dX1_moveWindow_9 ?_
    refine hx_bipush (pc := 12) F dX1_moveWindow_12 kc_b7 ?_
    refine hx_icmp_le (pc := 14) (tgt := 18) F (by omega) (by omega) dX1_moveWindow_14 (by decide) (fun h14 => ?_) (fun h14 => ?_)
    · obtain ⟨hk4, hk5, hk6, hk7⟩ := hk3 h5 h14
      refine hx_aload_n (pc := 18) F dX1_moveWindow_18 rfl 0 rfl ?_
      refine h1_g7 (pc := 19) F rfl dX1_moveWindow_19 ?_
      refine hx_aload_n (pc := 22) F dX1_moveWindow_22 rfl 0 rfl ?_
      refine h1_g5 (pc := 23) F rfl dX1_moveWindow_23 ?_
      refine hx_iconst (pc := 26) F dX1_moveWindow_26 kc_i1 ?_
      refine hx_isub (pc := 27) F (by omega) dX1_moveWindow_27 ?_
      refine hx_icmp_lt (pc := 28) (tgt := 36) F (by omega) (by omega) dX1_moveWindow_28 (by decide) (fun h28 => ?_) (fun h28 => ?_)
      · have hm0 : σ = cf_m0 σ := (if_neg (by omega)).symm
        refine hx_as (σ' := (cf_m0 σ)) hm0 rfl rfl rfl ?_
        refine hx_aload_n (pc := 36) F dX1_moveWindow_36 rfl 0 rfl ?_
        refine h1_g5 (pc := 37) F rfl dX1_moveWindow_37 ?_
        refine hx_istore_n (pc := 40) (lv' := [(0, .ref (hg_h G)), (1, .int (nI ((cf_m0 σ) 5 0)))]) F dX1_moveWindow_40 rfl (by decide) [1, 0] rfl ?_
        refine hx_aload_n (pc := 41) F dX1_moveWindow_41 rfl 0 rfl ?_
        refine hx_aload_n (pc := 42) F dX1_moveWindow_42 rfl 0 rfl ?_
        refine h1_g6 (pc := 43) F rfl dX1_moveWindow_43 ?_
        refine hx_aload_n (pc := 46) F dX1_moveWindow_46 rfl 0 rfl ?_
        refine h1_g7 (pc := 47) F rfl dX1_moveWindow_47 ?_
        refine h1_l6 (pc := 50) F (by omega) dX1_moveWindow_50 ?_
        refine hc_X1_collectBlock (pc := 51) F rfl (by decide) (ct_X1_collectBlock _ G (cf_m0 σ) ((cf_m0 σ) 6 ((cf_m0 σ) 7 0)) hk5) (Nat.le_of_ble_eq_true rfl) dX1_moveWindow_51 ?_
        refine hx_as (σ' := (cf_m1 σ)) rfl rfl rfl rfl ?_
        refine hx_aload_n (pc := 54) F dX1_moveWindow_54 rfl 0 rfl ?_
        refine h1_g5 (pc := 55) F rfl dX1_moveWindow_55 ?_
        refine hx_iload_n (pc := 58) F dX1_moveWindow_58 rfl 1 rfl ?_
        refine hx_icmp_lt (pc := 59) (tgt := 72) F (by omega) (by omega) dX1_moveWindow_59 (by decide) (fun h59 => ?_) (fun h59 => ?_)
        · exact hx_vret (pc := 72) F E rfl (by unfold cf_mw; (repeat' split) <;> first | (exfalso; omega) | rfl | contradiction) dX1_moveWindow_72
        · refine hx_aload_n (pc := 62) F dX1_moveWindow_62 rfl 0 rfl ?_
          refine hx_dup (pc := 63) F dX1_moveWindow_63 rfl ?_
          refine h1_g7 (pc := 64) F rfl dX1_moveWindow_64 ?_
          refine hx_iconst (pc := 67) F dX1_moveWindow_67 kc_i1 ?_
          refine hx_iadd (pc := 68) F dX1_moveWindow_68 ?_
          refine h1_p7 (pc := 69) F rfl dX1_moveWindow_69 ?_
          exact hx_vret (pc := 72) F E rfl (by unfold cf_mw; (repeat' split) <;> first | (exfalso; omega) | rfl | contradiction) dX1_moveWindow_72
      · have hm0 : hs_st σ 7 0 0 = cf_m0 σ := (if_pos (by omega)).symm
        refine hx_aload_n (pc := 31) F dX1_moveWindow_31 rfl 0 rfl ?_
        refine hx_iconst (pc := 32) F dX1_moveWindow_32 kc_i0 ?_
        refine h1_p7 (pc := 33) F rfl dX1_moveWindow_33 ?_
        refine hx_as (σ' := (cf_m0 σ)) hm0 rfl rfl rfl ?_
        refine hx_aload_n (pc := 36) F dX1_moveWindow_36 rfl 0 rfl ?_
        refine h1_g5 (pc := 37) F rfl dX1_moveWindow_37 ?_
        refine hx_istore_n (pc := 40) (lv' := [(0, .ref (hg_h G)), (1, .int (nI ((cf_m0 σ) 5 0)))]) F dX1_moveWindow_40 rfl (by decide) [1, 0] rfl ?_
        refine hx_aload_n (pc := 41) F dX1_moveWindow_41 rfl 0 rfl ?_
        refine hx_aload_n (pc := 42) F dX1_moveWindow_42 rfl 0 rfl ?_
        refine h1_g6 (pc := 43) F rfl dX1_moveWindow_43 ?_
        refine hx_aload_n (pc := 46) F dX1_moveWindow_46 rfl 0 rfl ?_
        refine h1_g7 (pc := 47) F rfl dX1_moveWindow_47 ?_
        refine h1_l6 (pc := 50) F (by omega) dX1_moveWindow_50 ?_
        refine hc_X1_collectBlock (pc := 51) F rfl (by decide) (ct_X1_collectBlock _ G (cf_m0 σ) ((cf_m0 σ) 6 ((cf_m0 σ) 7 0)) hk5) (Nat.le_of_ble_eq_true rfl) dX1_moveWindow_51 ?_
        refine hx_as (σ' := (cf_m1 σ)) rfl rfl rfl rfl ?_
        refine hx_aload_n (pc := 54) F dX1_moveWindow_54 rfl 0 rfl ?_
        refine h1_g5 (pc := 55) F rfl dX1_moveWindow_55 ?_
        refine hx_iload_n (pc := 58) F dX1_moveWindow_58 rfl 1 rfl ?_
        refine hx_icmp_lt (pc := 59) (tgt := 72) F (by omega) (by omega) dX1_moveWindow_59 (by decide) (fun h59 => ?_) (fun h59 => ?_)
        · exact hx_vret (pc := 72) F E rfl (by unfold cf_mw; (repeat' split) <;> first | (exfalso; omega) | rfl | contradiction) dX1_moveWindow_72
        · refine hx_aload_n (pc := 62) F dX1_moveWindow_62 rfl 0 rfl ?_
          refine hx_dup (pc := 63) F dX1_moveWindow_63 rfl ?_
          refine h1_g7 (pc := 64) F rfl dX1_moveWindow_64 ?_
          refine hx_iconst (pc := 67) F dX1_moveWindow_67 kc_i1 ?_
          refine hx_iadd (pc := 68) F dX1_moveWindow_68 ?_
          refine h1_p7 (pc := 69) F rfl dX1_moveWindow_69 ?_
          exact hx_vret (pc := 72) F E rfl (by unfold cf_mw; (repeat' split) <;> first | (exfalso; omega) | rfl | contradiction) dX1_moveWindow_72
    · exact hx_vret (pc := 17) F E rfl (by unfold cf_mw; (repeat' split) <;> first | (exfalso; omega) | rfl | contradiction) dX1_moveWindow_17
end
section
set_option maxRecDepth 100000
set_option maxHeartbeats 4000000 in
theorem ct_X1_layOut (l : Launch) (G : hx_G) (σ : hs_S) (n : Nat) (hk : n ≤ 64) : hx_cV l yX1_layOut mX1_layOut (V1 G) σ [.ref (hg_h G), .int (nI n)] (cf_lay σ n) := by
  refine hx_enterV (by decide +kernel) rfl (Nat.le_of_ble_eq_true rfl) (fun X E F => ?_)
  show hx_W X mX1_layOut (V1 G) σ 0 [(0, .ref (hg_h G)), (1, .int (nI n))] []
  obtain ⟨hb1, hb2, hb3⟩ := cf_lb_b hk
  refine hx_aload_n (pc := 0) F dX1_layOut_0 rfl 0 rfl ?_
  refine hx_iload_n (pc := 1) F dX1_layOut_1 rfl 1 rfl ?_
  refine hx_if_ne (pc := 2) (tgt := 9) F (by omega) dX1_layOut_2 (by decide) (fun h2 => ?_) (fun h2 => ?_)
  · have hlb : (n + 8 - 1) / 8 = cf_lb n := (if_neg h2).symm
    refine hx_iload_n (pc := 9) F dX1_layOut_9 rfl 1 rfl ?_
    refine hx_bipush (pc := 10) F dX1_layOut_10 kc_b8 ?_
    refine hx_iadd (pc := 12) F dX1_layOut_12 ?_
    refine hx_iconst (pc := 13) F dX1_layOut_13 kc_i1 ?_
    refine hx_isub (pc := 14) F (by omega) dX1_layOut_14 ?_
    refine hx_bipush (pc := 15) F dX1_layOut_15 kc_b8 ?_
    refine hx_idiv (pc := 17) F (by omega) (by decide) (by decide) dX1_layOut_17 ?_
    refine h1_p5 (pc := 18) F rfl dX1_layOut_18 ?_
    refine hx_as (σ' := hs_st σ 5 0 (cf_lb n)) (by rw [hlb]) rfl rfl rfl ?_
    refine hx_iconst (pc := 21) F dX1_layOut_21 kc_i0 ?_
    refine hx_istore_n (pc := 22) (lv' := [(0, .ref (hg_h G)), (1, .int (nI n)), (2, .int (nI 0))]) F dX1_layOut_22 rfl (by decide) [1, 2, 0] rfl ?_
    have L23 : ∀ (n23 : Nat) (i : Nat) (τ : hs_S), i + n23 = cf_lb n → it_f cf_lob n23 i τ = cf_la σ n → τ 5 0 = cf_lb n → hx_W X mX1_layOut (V1 G) τ 23 [(0, .ref (hg_h G)), (1, .int (nI n)), (2, .int (nI i))] [] := by
      intro n23
      induction n23 with
      | zero =>
        intro i τ hi23 hf23 hN23
        have hz23 : i = cf_lb n := by omega
        have hs23 : τ = cf_la σ n := hf23
        rw [hs23] at hN23
        refine hx_as (σ' := cf_la σ n) (lv' := [(0, .ref (hg_h G)), (1, .int (nI n)), (2, .int (nI (cf_lb n)))]) hs23 rfl (by rw [hz23]) rfl ?_
        refine hx_iload_n (pc := 23) F dX1_layOut_23 rfl 2 rfl ?_
        refine hx_aload_n (pc := 24) F dX1_layOut_24 rfl 0 rfl ?_
        refine h1_g5 (pc := 25) F rfl dX1_layOut_25 ?_
        refine hx_icmp_ge (pc := 28) (tgt := 44) F (by omega) (by omega) dX1_layOut_28 (by decide) (fun h28 => ?_) (fun h28 => absurd h28 (by omega))
        refine hx_aload_n (pc := 44) F dX1_layOut_44 rfl 0 rfl ?_
        refine hx_iload_n (pc := 45) F dX1_layOut_45 rfl 1 rfl ?_
        refine hx_aload_n (pc := 46) F dX1_layOut_46 rfl 0 rfl ?_
        refine h1_g5 (pc := 47) F rfl dX1_layOut_47 ?_
        refine hx_topN (cf_lb n) hN23 ?_
        refine hx_iconst (pc := 50) F dX1_layOut_50 kc_i1 ?_
        refine hx_isub (pc := 51) F (by omega) dX1_layOut_51 ?_
        refine hx_bipush (pc := 52) F dX1_layOut_52 kc_b8 ?_
        refine hx_imul (pc := 54) F dX1_layOut_54 ?_
        refine hx_isub (pc := 55) F (by omega) dX1_layOut_55 ?_
        refine h1_p8 (pc := 56) F rfl dX1_layOut_56 ?_
        refine hx_aload_n (pc := 59) F dX1_layOut_59 rfl 0 rfl ?_
        refine hx_iconst (pc := 60) F dX1_layOut_60 kc_i0 ?_
        refine h1_p7 (pc := 61) F rfl dX1_layOut_61 ?_
        exact hx_vret (pc := 64) F E rfl rfl dX1_layOut_64
      | succ n23 ih23 =>
        intro i τ hi23 hf23 hN23
        have hf23 : it_f cf_lob n23 (i + 1) (cf_lob i τ) = cf_la σ n := hf23
        refine hx_iload_n (pc := 23) F dX1_layOut_23 rfl 2 rfl ?_
        refine hx_aload_n (pc := 24) F dX1_layOut_24 rfl 0 rfl ?_
        refine h1_g5 (pc := 25) F rfl dX1_layOut_25 ?_
        refine hx_icmp_ge (pc := 28) (tgt := 44) F (by omega) (by omega) dX1_layOut_28 (by decide) (fun h28 => absurd h28 (by omega)) (fun h28 => ?_)
        refine hx_aload_n (pc := 31) F dX1_layOut_31 rfl 0 rfl ?_
        refine h1_g6 (pc := 32) F rfl dX1_layOut_32 ?_
        refine hx_iload_n (pc := 35) F dX1_layOut_35 rfl 2 rfl ?_
        refine hx_iload_n (pc := 36) F dX1_layOut_36 rfl 2 rfl ?_
        refine h1_s6 (pc := 37) F (by omega) dX1_layOut_37 ?_
        refine hx_iinc (pc := 38) (lv' := [(0, .ref (hg_h G)), (1, .int (nI n)), (2, .int (nI (i + 1)))]) F dX1_layOut_38 2 rfl (hx_inc1 _) (by decide) [1, 2, 0] rfl ?_
        refine hx_goto (pc := 41) (tgt := 23) F dX1_layOut_41 (by decide) ?_
        have e23 : cf_lob i τ = (hs_st τ 6 i i) := rfl
        rw [e23] at hf23
        exact ih23 (i + 1) _ (by omega) hf23 hN23
    exact L23 (cf_lb n) 0 (hs_st σ 5 0 (cf_lb n)) (by omega) rfl rfl
  · have hlb : 1 = cf_lb n := (if_pos h2).symm
    refine hx_iconst (pc := 5) F dX1_layOut_5 kc_i1 ?_
    refine hx_goto (pc := 6) (tgt := 18) F dX1_layOut_6 (by decide) ?_
    refine h1_p5 (pc := 18) F rfl dX1_layOut_18 ?_
    refine hx_as (σ' := hs_st σ 5 0 (cf_lb n)) (by rw [hlb]) rfl rfl rfl ?_
    refine hx_iconst (pc := 21) F dX1_layOut_21 kc_i0 ?_
    refine hx_istore_n (pc := 22) (lv' := [(0, .ref (hg_h G)), (1, .int (nI n)), (2, .int (nI 0))]) F dX1_layOut_22 rfl (by decide) [1, 2, 0] rfl ?_
    have L23 : ∀ (n23 : Nat) (i : Nat) (τ : hs_S), i + n23 = cf_lb n → it_f cf_lob n23 i τ = cf_la σ n → τ 5 0 = cf_lb n → hx_W X mX1_layOut (V1 G) τ 23 [(0, .ref (hg_h G)), (1, .int (nI n)), (2, .int (nI i))] [] := by
      intro n23
      induction n23 with
      | zero =>
        intro i τ hi23 hf23 hN23
        have hz23 : i = cf_lb n := by omega
        have hs23 : τ = cf_la σ n := hf23
        rw [hs23] at hN23
        refine hx_as (σ' := cf_la σ n) (lv' := [(0, .ref (hg_h G)), (1, .int (nI n)), (2, .int (nI (cf_lb n)))]) hs23 rfl (by rw [hz23]) rfl ?_
        refine hx_iload_n (pc := 23) F dX1_layOut_23 rfl 2 rfl ?_
        refine hx_aload_n (pc := 24) F dX1_layOut_24 rfl 0 rfl ?_
        refine h1_g5 (pc := 25) F rfl dX1_layOut_25 ?_
        refine hx_icmp_ge (pc := 28) (tgt := 44) F (by omega) (by omega) dX1_layOut_28 (by decide) (fun h28 => ?_) (fun h28 => absurd h28 (by omega))
        refine hx_aload_n (pc := 44) F dX1_layOut_44 rfl 0 rfl ?_
        refine hx_iload_n (pc := 45) F dX1_layOut_45 rfl 1 rfl ?_
        refine hx_aload_n (pc := 46) F dX1_layOut_46 rfl 0 rfl ?_
        refine h1_g5 (pc := 47) F rfl dX1_layOut_47 ?_
        refine hx_topN (cf_lb n) hN23 ?_
        refine hx_iconst (pc := 50) F dX1_layOut_50 kc_i1 ?_
        refine hx_isub (pc := 51) F (by omega) dX1_layOut_51 ?_
        refine hx_bipush (pc := 52) F dX1_layOut_52 kc_b8 ?_
        refine hx_imul (pc := 54) F dX1_layOut_54 ?_
        refine hx_isub (pc := 55) F (by omega) dX1_layOut_55 ?_
        refine h1_p8 (pc := 56) F rfl dX1_layOut_56 ?_
        refine hx_aload_n (pc := 59) F dX1_layOut_59 rfl 0 rfl ?_
        refine hx_iconst (pc := 60) F dX1_layOut_60 kc_i0 ?_
        refine h1_p7 (pc := 61) F rfl dX1_layOut_61 ?_
        exact hx_vret (pc := 64) F E rfl rfl dX1_layOut_64
      | succ n23 ih23 =>
        intro i τ hi23 hf23 hN23
        have hf23 : it_f cf_lob n23 (i + 1) (cf_lob i τ) = cf_la σ n := hf23
        refine hx_iload_n (pc := 23) F dX1_layOut_23 rfl 2 rfl ?_
        refine hx_aload_n (pc := 24) F dX1_layOut_24 rfl 0 rfl ?_
        refine h1_g5 (pc := 25) F rfl dX1_layOut_25 ?_
        refine hx_icmp_ge (pc := 28) (tgt := 44) F (by omega) (by omega) dX1_layOut_28 (by decide) (fun h28 => absurd h28 (by omega)) (fun h28 => ?_)
        refine hx_aload_n (pc := 31) F dX1_layOut_31 rfl 0 rfl ?_
        refine h1_g6 (pc := 32) F rfl dX1_layOut_32 ?_
        refine hx_iload_n (pc := 35) F dX1_layOut_35 rfl 2 rfl ?_
        refine hx_iload_n (pc := 36) F dX1_layOut_36 rfl 2 rfl ?_
        refine h1_s6 (pc := 37) F (by omega) dX1_layOut_37 ?_
        refine hx_iinc (pc := 38) (lv' := [(0, .ref (hg_h G)), (1, .int (nI n)), (2, .int (nI (i + 1)))]) F dX1_layOut_38 2 rfl (hx_inc1 _) (by decide) [1, 2, 0] rfl ?_
        refine hx_goto (pc := 41) (tgt := 23) F dX1_layOut_41 (by decide) ?_
        have e23 : cf_lob i τ = (hs_st τ 6 i i) := rfl
        rw [e23] at hf23
        exact ih23 (i + 1) _ (by omega) hf23 hN23
    exact L23 (cf_lb n) 0 (hs_st σ 5 0 (cf_lb n)) (by omega) rfl rfl
set_option maxHeartbeats 4000000 in
theorem ca_1 {X : hx_X} {G : hx_G} (F : hx_F X mX1_collectAll (V1 G)) (υ : hs_S) (K : hx_W X mX1_collectAll (V1 G) (it_f cf_z10 64 0 υ) 25 [(0, .ref (hg_h G))] []) : hx_W X mX1_collectAll (V1 G) υ 4 [(0, .ref (hg_h G))] [] := by
  refine hx_iconst (pc := 4) F dX1_collectAll_4 kc_i0 ?_
  refine hx_istore_n (pc := 5) (lv' := [(0, .ref (hg_h G)), (1, .int (nI 0))]) F dX1_collectAll_5 rfl (by decide) [1, 0] rfl ?_
  have L6 : ∀ (n6 : Nat) (i : Nat) (τ : hs_S), i + n6 = 64 → it_f cf_z10 n6 i τ = it_f cf_z10 64 0 υ → hx_W X mX1_collectAll (V1 G) τ 6 [(0, .ref (hg_h G)), (1, .int (nI i))] [] := by
    intro n6
    induction n6 with
    | zero =>
      intro i τ hi6 hf6
      have hz6 : i = 64 := by omega
      have hs6 : τ = it_f cf_z10 64 0 υ := hf6
      refine hx_as (σ' := it_f cf_z10 64 0 υ) (lv' := [(0, .ref (hg_h G)), (1, .int (nI 64))]) hs6 rfl (by rw [hz6]) rfl ?_
      refine hx_iload_n (pc := 6) F dX1_collectAll_6 rfl 1 rfl ?_
      refine hx_bipush (pc := 7) F dX1_collectAll_7 kc_b64 ?_
      refine hx_icmp_ge (pc := 9) (tgt := 25) F (by omega) (by omega) dX1_collectAll_9 (by decide) (fun h9 => ?_) (fun h9 => absurd h9 (by omega))
      refine hx_sub [0] (lv' := [(0, .ref (hg_h G))]) rfl ?_
      exact K
    | succ n6 ih6 =>
      intro i τ hi6 hf6
      have hf6 : it_f cf_z10 n6 (i + 1) (cf_z10 i τ) = it_f cf_z10 64 0 υ := hf6
      refine hx_iload_n (pc := 6) F dX1_collectAll_6 rfl 1 rfl ?_
      refine hx_bipush (pc := 7) F dX1_collectAll_7 kc_b64 ?_
      refine hx_icmp_ge (pc := 9) (tgt := 25) F (by omega) (by omega) dX1_collectAll_9 (by decide) (fun h9 => absurd h9 (by omega)) (fun h9 => ?_)
      refine hx_aload_n (pc := 12) F dX1_collectAll_12 rfl 0 rfl ?_
      refine h1_g10 (pc := 13) F rfl dX1_collectAll_13 ?_
      refine hx_iload_n (pc := 16) F dX1_collectAll_16 rfl 1 rfl ?_
      refine hx_iconst (pc := 17) F dX1_collectAll_17 kc_i0 ?_
      refine h1_s10 (pc := 18) F (by omega) dX1_collectAll_18 ?_
      refine hx_iinc (pc := 19) (lv' := [(0, .ref (hg_h G)), (1, .int (nI (i + 1)))]) F dX1_collectAll_19 1 rfl (hx_inc1 _) (by decide) [1, 0] rfl ?_
      refine hx_goto (pc := 22) (tgt := 6) F dX1_collectAll_22 (by decide) ?_
      have e6 : cf_z10 i τ = (hs_st τ 10 i 0) := rfl
      rw [e6] at hf6
      exact ih6 (i + 1) _ (by omega) hf6
  exact L6 (64) 0 υ (by omega) rfl
set_option maxHeartbeats 4000000 in
theorem ca_2 {X : hx_X} {G : hx_G} (F : hx_F X mX1_collectAll (V1 G)) (υ : hs_S) (hq : υ 15 0 ≤ 64) (hk : ∀ n, n = υ 15 0 → it_k ck_a2b cf_a2b n 0 υ) (K : hx_W X mX1_collectAll (V1 G) (it_f cf_a2b (υ 15 0) 0 υ) 55 [(0, .ref (hg_h G))] []) : hx_W X mX1_collectAll (V1 G) υ 25 [(0, .ref (hg_h G))] [] := by
  refine hx_iconst (pc := 25) F dX1_collectAll_25 kc_i0 ?_
  refine hx_istore_n (pc := 26) (lv' := [(0, .ref (hg_h G)), (1, .int (nI 0))]) F dX1_collectAll_26 rfl (by decide) [1, 0] rfl ?_
  have L27 : ∀ (n27 : Nat) (i : Nat) (τ : hs_S), i + n27 = υ 15 0 → it_f cf_a2b n27 i τ = it_f cf_a2b (υ 15 0) 0 υ → it_k ck_a2b cf_a2b n27 i τ → τ 15 0 = υ 15 0 → hx_W X mX1_collectAll (V1 G) τ 27 [(0, .ref (hg_h G)), (1, .int (nI i))] [] := by
    intro n27
    induction n27 with
    | zero =>
      intro i τ hi27 hf27 hk27 hN27
      have hz27 : i = υ 15 0 := by omega
      have hs27 : τ = it_f cf_a2b (υ 15 0) 0 υ := hf27
      refine hx_iload_n (pc := 27) F dX1_collectAll_27 rfl 1 rfl ?_
      refine hx_aload_n (pc := 28) F dX1_collectAll_28 rfl 0 rfl ?_
      refine h1_g15 (pc := 29) F rfl dX1_collectAll_29 ?_
      refine hx_icmp_ge (pc := 32) (tgt := 55) F (by omega) (by omega) dX1_collectAll_32 (by decide) (fun h32 => ?_) (fun h32 => absurd h32 (by omega))
      refine hx_as (σ' := (it_f cf_a2b (υ 15 0) 0 υ)) hs27 rfl rfl rfl ?_
      refine hx_sub [0] (lv' := [(0, .ref (hg_h G))]) rfl ?_
      exact K
    | succ n27 ih27 =>
      intro i τ hi27 hf27 hk27 hN27
      obtain ⟨hj27, hk27⟩ := hk27
      have hf27 : it_f cf_a2b n27 (i + 1) (cf_a2b i τ) = it_f cf_a2b (υ 15 0) 0 υ := hf27
      refine hx_iload_n (pc := 27) F dX1_collectAll_27 rfl 1 rfl ?_
      refine hx_aload_n (pc := 28) F dX1_collectAll_28 rfl 0 rfl ?_
      refine h1_g15 (pc := 29) F rfl dX1_collectAll_29 ?_
      refine hx_icmp_ge (pc := 32) (tgt := 55) F (by omega) (by omega) dX1_collectAll_32 (by decide) (fun h32 => absurd h32 (by omega)) (fun h32 => ?_)
      have hj1 : τ 14 i < 64 := hj27
      refine hx_aload_n (pc := 35) F dX1_collectAll_35 rfl 0 rfl ?_
      refine h1_g10 (pc := 36) F rfl dX1_collectAll_36 ?_
      refine hx_aload_n (pc := 39) F dX1_collectAll_39 rfl 0 rfl ?_
      refine h1_g14 (pc := 40) F rfl dX1_collectAll_40 ?_
      refine hx_iload_n (pc := 43) F dX1_collectAll_43 rfl 1 rfl ?_
      refine h1_l14 (pc := 44) F (by omega) dX1_collectAll_44 ?_
      refine hx_iload_n (pc := 45) F dX1_collectAll_45 rfl 1 rfl ?_
      refine hx_iconst (pc := 46) F dX1_collectAll_46 kc_i1 ?_
      refine hx_iadd (pc := 47) F dX1_collectAll_47 ?_
      refine h1_s10 (pc := 48) F (by omega) dX1_collectAll_48 ?_
      refine hx_iinc (pc := 49) (lv' := [(0, .ref (hg_h G)), (1, .int (nI (i + 1)))]) F dX1_collectAll_49 1 rfl (hx_inc1 _) (by decide) [1, 0] rfl ?_
      refine hx_goto (pc := 52) (tgt := 27) F dX1_collectAll_52 (by decide) ?_
      have e27 : cf_a2b i τ = (hs_st τ 10 (τ 14 i) (i + 1)) := rfl
      rw [e27] at hf27 hk27
      exact ih27 (i + 1) _ (by omega) hf27 hk27 hN27
  exact L27 (υ 15 0) 0 υ (by omega) rfl (hk _ rfl) rfl
set_option maxHeartbeats 4000000 in
theorem ca_3 {X : hx_X} {G : hx_G} (F : hx_F X mX1_collectAll (V1 G)) (υ : hs_S) (hq : υ 15 0 ≤ 64) (hk : ∀ n, n = υ 15 0 → it_k ck_a3b cf_a3b n 0 υ) (K : hx_W X mX1_collectAll (V1 G) (it_f cf_a3b (υ 15 0) 0 υ) 130 [(0, .ref (hg_h G))] []) : hx_W X mX1_collectAll (V1 G) υ 55 [(0, .ref (hg_h G))] [] := by
  refine hx_iconst (pc := 55) F dX1_collectAll_55 kc_i0 ?_
  refine hx_istore_n (pc := 56) (lv' := [(0, .ref (hg_h G)), (1, .int (nI 0))]) F dX1_collectAll_56 rfl (by decide) [1, 0] rfl ?_
  have L57 : ∀ (n57 : Nat) (i : Nat) (τ : hs_S), i + n57 = υ 15 0 → it_f cf_a3b n57 i τ = it_f cf_a3b (υ 15 0) 0 υ → it_k ck_a3b cf_a3b n57 i τ → τ 15 0 = υ 15 0 → hx_W X mX1_collectAll (V1 G) τ 57 [(0, .ref (hg_h G)), (1, .int (nI i))] [] := by
    intro n57
    induction n57 with
    | zero =>
      intro i τ hi57 hf57 hk57 hN57
      have hz57 : i = υ 15 0 := by omega
      have hs57 : τ = it_f cf_a3b (υ 15 0) 0 υ := hf57
      refine hx_iload_n (pc := 57) F dX1_collectAll_57 rfl 1 rfl ?_
      refine hx_aload_n (pc := 58) F dX1_collectAll_58 rfl 0 rfl ?_
      refine h1_g15 (pc := 59) F rfl dX1_collectAll_59 ?_
      refine hx_icmp_ge (pc := 62) (tgt := 130) F (by omega) (by omega) dX1_collectAll_62 (by decide) (fun h62 => ?_) (fun h62 => absurd h62 (by omega))
      refine hx_as (σ' := (it_f cf_a3b (υ 15 0) 0 υ)) hs57 rfl rfl rfl ?_
      refine hx_sub [0] (lv' := [(0, .ref (hg_h G))]) rfl ?_
      exact K
    | succ n57 ih57 =>
      intro i τ hi57 hf57 hk57 hN57
      obtain ⟨hj57, hk57⟩ := hk57
      have hf57 : it_f cf_a3b n57 (i + 1) (cf_a3b i τ) = it_f cf_a3b (υ 15 0) 0 υ := hf57
      refine hx_iload_n (pc := 57) F dX1_collectAll_57 rfl 1 rfl ?_
      refine hx_aload_n (pc := 58) F dX1_collectAll_58 rfl 0 rfl ?_
      refine h1_g15 (pc := 59) F rfl dX1_collectAll_59 ?_
      refine hx_icmp_ge (pc := 62) (tgt := 130) F (by omega) (by omega) dX1_collectAll_62 (by decide) (fun h62 => absurd h62 (by omega)) (fun h62 => ?_)
      obtain ⟨hj57, hj58⟩ := hj57
      refine hx_aload_n (pc := 65) F dX1_collectAll_65 rfl 0 rfl ?_
      refine h1_g16 (pc := 66) F rfl dX1_collectAll_66 ?_
      refine hx_iload_n (pc := 69) F dX1_collectAll_69 rfl 1 rfl ?_
      refine hx_aload_n (pc := 70) F dX1_collectAll_70 rfl 0 rfl ?_
      refine h1_g3 (pc := 71) F rfl dX1_collectAll_71 ?_
      refine hx_aload_n (pc := 74) F dX1_collectAll_74 rfl 0 rfl ?_
      refine h1_g14 (pc := 75) F rfl dX1_collectAll_75 ?_
      refine hx_iload_n (pc := 78) F dX1_collectAll_78 rfl 1 rfl ?_
      refine h1_l14 (pc := 79) F (by omega) dX1_collectAll_79 ?_
      refine h1_l3 (pc := 80) F (by omega) dX1_collectAll_80 ?_
      refine h1_s16 (pc := 81) F (by omega) dX1_collectAll_81 ?_
      refine hx_iconst (pc := 82) F dX1_collectAll_82 kc_i0 ?_
      refine hx_istore_n (pc := 83) (lv' := [(0, .ref (hg_h G)), (1, .int (nI i)), (2, .int (nI 0))]) F dX1_collectAll_83 rfl (by decide) [1, 2, 0] rfl ?_
      have L84 : ∀ (n84 : Nat) (f : Nat) (ξ : hs_S), f + n84 = 3 → it_f (cf_a3f i) n84 f ξ = cf_a3b i τ → it_k (ck_a3f i) (cf_a3f i) n84 f ξ → hx_W X mX1_collectAll (V1 G) ξ 84 [(0, .ref (hg_h G)), (1, .int (nI i)), (2, .int (nI f))] [] := by
        intro n84
        induction n84 with
        | zero =>
          intro f ξ hi84 hf84 hk84
          have hz84 : f = 3 := by omega
          have hs84 : ξ = cf_a3b i τ := hf84
          refine hx_as (σ' := cf_a3b i τ) (lv' := [(0, .ref (hg_h G)), (1, .int (nI i)), (2, .int (nI 3))]) hs84 rfl (by rw [hz84]) rfl ?_
          refine hx_iload_n (pc := 84) F dX1_collectAll_84 rfl 2 rfl ?_
          refine hx_iconst (pc := 85) F dX1_collectAll_85 kc_i3 ?_
          refine hx_icmp_ge (pc := 86) (tgt := 124) F (by omega) (by omega) dX1_collectAll_86 (by decide) (fun h86 => ?_) (fun h86 => absurd h86 (by omega))
          refine hx_iinc (pc := 124) (lv' := [(0, .ref (hg_h G)), (1, .int (nI (i + 1))), (2, .int (nI 3))]) F dX1_collectAll_124 1 rfl (hx_inc1 _) (by decide) [1, 0, 2] rfl ?_
          refine hx_goto (pc := 127) (tgt := 57) F dX1_collectAll_127 (by decide) ?_
          refine hx_sub [0, 1] (lv' := [(0, .ref (hg_h G)), (1, .int (nI (i + 1)))]) rfl ?_
          have e57 : cf_a3b i τ = cf_a3b i τ := rfl
          rw [e57] at hf57 hk57
          exact ih57 (i + 1) _ (by omega) hf57 hk57 hN57
        | succ n84 ih84 =>
          intro f ξ hi84 hf84 hk84
          obtain ⟨hj84, hk84⟩ := hk84
          have hf84 : it_f (cf_a3f i) n84 (f + 1) (cf_a3f i f ξ) = cf_a3b i τ := hf84
          refine hx_iload_n (pc := 84) F dX1_collectAll_84 rfl 2 rfl ?_
          refine hx_iconst (pc := 85) F dX1_collectAll_85 kc_i3 ?_
          refine hx_icmp_ge (pc := 86) (tgt := 124) F (by omega) (by omega) dX1_collectAll_86 (by decide) (fun h86 => absurd h86 (by omega)) (fun h86 => ?_)
          obtain ⟨hj1, hj2⟩ := hj84
          refine hx_aload_n (pc := 89) F dX1_collectAll_89 rfl 0 rfl ?_
          refine h1_g17 (pc := 90) F rfl dX1_collectAll_90 ?_
          refine hx_iload_n (pc := 93) F dX1_collectAll_93 rfl 1 rfl ?_
          refine hx_iconst (pc := 94) F dX1_collectAll_94 kc_i3 ?_
          refine hx_imul (pc := 95) F dX1_collectAll_95 ?_
          refine hx_iload_n (pc := 96) F dX1_collectAll_96 rfl 2 rfl ?_
          refine hx_iadd (pc := 97) F dX1_collectAll_97 ?_
          refine hx_aload_n (pc := 98) F dX1_collectAll_98 rfl 0 rfl ?_
          refine hx_aload_n (pc := 99) F dX1_collectAll_99 rfl 0 rfl ?_
          refine h1_g4 (pc := 100) F rfl dX1_collectAll_100 ?_
          refine hx_aload_n (pc := 103) F dX1_collectAll_103 rfl 0 rfl ?_
          refine h1_g14 (pc := 104) F rfl dX1_collectAll_104 ?_
          refine hx_iload_n (pc := 107) F dX1_collectAll_107 rfl 1 rfl ?_
          refine h1_l14 (pc := 108) F (by omega) dX1_collectAll_108 ?_
          refine hx_iconst (pc := 109) F dX1_collectAll_109 kc_i3 ?_
          refine hx_imul (pc := 110) F dX1_collectAll_110 ?_
          refine hx_iload_n (pc := 111) F dX1_collectAll_111 rfl 2 rfl ?_
          refine hx_iadd (pc := 112) F dX1_collectAll_112 ?_
          refine h1_l4 (pc := 113) F (by omega) dX1_collectAll_113 ?_
          refine hc_X1_moved (pc := 114) F rfl (by decide) (ct_X1_moved _ G ξ (ξ 4 (((ξ 14 i) * 3) + f)) hj2) (Nat.le_of_ble_eq_true rfl) dX1_collectAll_114 ?_
          refine h1_s17 (pc := 117) F (by omega) dX1_collectAll_117 ?_
          refine hx_iinc (pc := 118) (lv' := [(0, .ref (hg_h G)), (1, .int (nI i)), (2, .int (nI (f + 1)))]) F dX1_collectAll_118 2 rfl (hx_inc1 _) (by decide) [1, 2, 0] rfl ?_
          refine hx_goto (pc := 121) (tgt := 84) F dX1_collectAll_121 (by decide) ?_
          have e84 : cf_a3f i f ξ = (hs_st ξ 17 ((i * 3) + f) (cf_mo ξ (ξ 4 (((ξ 14 i) * 3) + f)))) := rfl
          rw [e84] at hf84 hk84
          exact ih84 (f + 1) _ (by omega) hf84 hk84
      exact L84 (3) 0 (hs_st τ 16 i (τ 3 (τ 14 i))) (by omega) rfl hj58
  exact L57 (υ 15 0) 0 υ (by omega) rfl (hk _ rfl) rfl
set_option maxHeartbeats 4000000 in
theorem ca_4 {X : hx_X} {G : hx_G} (F : hx_F X mX1_collectAll (V1 G)) (υ : hs_S) (hk : it_k ck_a4b cf_a4b 8 0 υ) (K : hx_W X mX1_collectAll (V1 G) (it_f cf_a4b 8 0 υ) 160 [(0, .ref (hg_h G))] []) : hx_W X mX1_collectAll (V1 G) υ 130 [(0, .ref (hg_h G))] [] := by
  refine hx_iconst (pc := 130) F dX1_collectAll_130 kc_i0 ?_
  refine hx_istore_n (pc := 131) (lv' := [(0, .ref (hg_h G)), (1, .int (nI 0))]) F dX1_collectAll_131 rfl (by decide) [1, 0] rfl ?_
  have L132 : ∀ (n132 : Nat) (r : Nat) (τ : hs_S), r + n132 = 8 → it_f cf_a4b n132 r τ = it_f cf_a4b 8 0 υ → it_k ck_a4b cf_a4b n132 r τ → hx_W X mX1_collectAll (V1 G) τ 132 [(0, .ref (hg_h G)), (1, .int (nI r))] [] := by
    intro n132
    induction n132 with
    | zero =>
      intro r τ hi132 hf132 hk132
      have hz132 : r = 8 := by omega
      have hs132 : τ = it_f cf_a4b 8 0 υ := hf132
      refine hx_as (σ' := it_f cf_a4b 8 0 υ) (lv' := [(0, .ref (hg_h G)), (1, .int (nI 8))]) hs132 rfl (by rw [hz132]) rfl ?_
      refine hx_iload_n (pc := 132) F dX1_collectAll_132 rfl 1 rfl ?_
      refine hx_bipush (pc := 133) F dX1_collectAll_133 kc_b8 ?_
      refine hx_icmp_ge (pc := 135) (tgt := 160) F (by omega) (by omega) dX1_collectAll_135 (by decide) (fun h135 => ?_) (fun h135 => absurd h135 (by omega))
      refine hx_sub [0] (lv' := [(0, .ref (hg_h G))]) rfl ?_
      exact K
    | succ n132 ih132 =>
      intro r τ hi132 hf132 hk132
      obtain ⟨hj132, hk132⟩ := hk132
      have hf132 : it_f cf_a4b n132 (r + 1) (cf_a4b r τ) = it_f cf_a4b 8 0 υ := hf132
      refine hx_iload_n (pc := 132) F dX1_collectAll_132 rfl 1 rfl ?_
      refine hx_bipush (pc := 133) F dX1_collectAll_133 kc_b8 ?_
      refine hx_icmp_ge (pc := 135) (tgt := 160) F (by omega) (by omega) dX1_collectAll_135 (by decide) (fun h135 => absurd h135 (by omega)) (fun h135 => ?_)
      refine hx_aload_n (pc := 138) F dX1_collectAll_138 rfl 0 rfl ?_
      refine h1_g1 (pc := 139) F rfl dX1_collectAll_139 ?_
      refine hx_iload_n (pc := 142) F dX1_collectAll_142 rfl 1 rfl ?_
      refine hx_aload_n (pc := 143) F dX1_collectAll_143 rfl 0 rfl ?_
      refine hx_aload_n (pc := 144) F dX1_collectAll_144 rfl 0 rfl ?_
      refine h1_g1 (pc := 145) F rfl dX1_collectAll_145 ?_
      refine hx_iload_n (pc := 148) F dX1_collectAll_148 rfl 1 rfl ?_
      refine h1_l1 (pc := 149) F (by omega) dX1_collectAll_149 ?_
      refine hc_X1_moved (pc := 150) F rfl (by decide) (ct_X1_moved _ G τ (τ 1 r) hj132) (Nat.le_of_ble_eq_true rfl) dX1_collectAll_150 ?_
      refine h1_s1 (pc := 153) F (by omega) dX1_collectAll_153 ?_
      refine hx_iinc (pc := 154) (lv' := [(0, .ref (hg_h G)), (1, .int (nI (r + 1)))]) F dX1_collectAll_154 1 rfl (hx_inc1 _) (by decide) [1, 0] rfl ?_
      refine hx_goto (pc := 157) (tgt := 132) F dX1_collectAll_157 (by decide) ?_
      have e132 : cf_a4b r τ = (hs_st τ 1 r (cf_mo τ (τ 1 r))) := rfl
      rw [e132] at hf132 hk132
      exact ih132 (r + 1) _ (by omega) hf132 hk132
  exact L132 (8) 0 υ (by omega) rfl hk
set_option maxHeartbeats 4000000 in
theorem ca_5 {X : hx_X} {G : hx_G} (F : hx_F X mX1_collectAll (V1 G)) (υ : hs_S) (K : hx_W X mX1_collectAll (V1 G) (it_f cf_a5b 8 0 υ) 181 [(0, .ref (hg_h G))] []) : hx_W X mX1_collectAll (V1 G) υ 160 [(0, .ref (hg_h G))] [] := by
  refine hx_iconst (pc := 160) F dX1_collectAll_160 kc_i0 ?_
  refine hx_istore_n (pc := 161) (lv' := [(0, .ref (hg_h G)), (1, .int (nI 0))]) F dX1_collectAll_161 rfl (by decide) [1, 0] rfl ?_
  have L162 : ∀ (n162 : Nat) (b : Nat) (τ : hs_S), b + n162 = 8 → it_f cf_a5b n162 b τ = it_f cf_a5b 8 0 υ → hx_W X mX1_collectAll (V1 G) τ 162 [(0, .ref (hg_h G)), (1, .int (nI b))] [] := by
    intro n162
    induction n162 with
    | zero =>
      intro b τ hi162 hf162
      have hz162 : b = 8 := by omega
      have hs162 : τ = it_f cf_a5b 8 0 υ := hf162
      refine hx_as (σ' := it_f cf_a5b 8 0 υ) (lv' := [(0, .ref (hg_h G)), (1, .int (nI 8))]) hs162 rfl (by rw [hz162]) rfl ?_
      refine hx_iload_n (pc := 162) F dX1_collectAll_162 rfl 1 rfl ?_
      refine hx_bipush (pc := 163) F dX1_collectAll_163 kc_b8 ?_
      refine hx_icmp_ge (pc := 165) (tgt := 181) F (by omega) (by omega) dX1_collectAll_165 (by decide) (fun h165 => ?_) (fun h165 => absurd h165 (by omega))
      refine hx_sub [0] (lv' := [(0, .ref (hg_h G))]) rfl ?_
      exact K
    | succ n162 ih162 =>
      intro b τ hi162 hf162
      have hf162 : it_f cf_a5b n162 (b + 1) (cf_a5b b τ) = it_f cf_a5b 8 0 υ := hf162
      refine hx_iload_n (pc := 162) F dX1_collectAll_162 rfl 1 rfl ?_
      refine hx_bipush (pc := 163) F dX1_collectAll_163 kc_b8 ?_
      refine hx_icmp_ge (pc := 165) (tgt := 181) F (by omega) (by omega) dX1_collectAll_165 (by decide) (fun h165 => absurd h165 (by omega)) (fun h165 => ?_)
      refine hx_aload_n (pc := 168) F dX1_collectAll_168 rfl 0 rfl ?_
      refine h1_g9 (pc := 169) F rfl dX1_collectAll_169 ?_
      refine hx_iload_n (pc := 172) F dX1_collectAll_172 rfl 1 rfl ?_
      refine hx_lconst (pc := 173) F dX1_collectAll_173 (v := lN 0) (by decide +kernel) ?_
      refine h1_s9 (pc := 174) F (by omega) dX1_collectAll_174 ?_
      refine hx_iinc (pc := 175) (lv' := [(0, .ref (hg_h G)), (1, .int (nI (b + 1)))]) F dX1_collectAll_175 1 rfl (hx_inc1 _) (by decide) [1, 0] rfl ?_
      refine hx_goto (pc := 178) (tgt := 162) F dX1_collectAll_178 (by decide) ?_
      have e162 : cf_a5b b τ = (hs_st τ 9 b 0) := rfl
      rw [e162] at hf162
      exact ih162 (b + 1) _ (by omega) hf162
  exact L162 (8) 0 υ (by omega) rfl
set_option maxHeartbeats 4000000 in
theorem ca_6 {X : hx_X} {G : hx_G} (F : hx_F X mX1_collectAll (V1 G)) (υ : hs_S) (hk : it_k ck_a6b cf_a6b 64 0 υ) (K : hx_W X mX1_collectAll (V1 G) (it_f cf_a6b 64 0 υ) 214 [(0, .ref (hg_h G))] []) : hx_W X mX1_collectAll (V1 G) υ 181 [(0, .ref (hg_h G))] [] := by
  refine hx_iconst (pc := 181) F dX1_collectAll_181 kc_i0 ?_
  refine hx_istore_n (pc := 182) (lv' := [(0, .ref (hg_h G)), (1, .int (nI 0))]) F dX1_collectAll_182 rfl (by decide) [1, 0] rfl ?_
  have L183 : ∀ (n183 : Nat) (i : Nat) (τ : hs_S), i + n183 = 64 → it_f cf_a6b n183 i τ = it_f cf_a6b 64 0 υ → it_k ck_a6b cf_a6b n183 i τ → hx_W X mX1_collectAll (V1 G) τ 183 [(0, .ref (hg_h G)), (1, .int (nI i))] [] := by
    intro n183
    induction n183 with
    | zero =>
      intro i τ hi183 hf183 hk183
      have hz183 : i = 64 := by omega
      have hs183 : τ = it_f cf_a6b 64 0 υ := hf183
      refine hx_as (σ' := it_f cf_a6b 64 0 υ) (lv' := [(0, .ref (hg_h G)), (1, .int (nI 64))]) hs183 rfl (by rw [hz183]) rfl ?_
      refine hx_iload_n (pc := 183) F dX1_collectAll_183 rfl 1 rfl ?_
      refine hx_bipush (pc := 184) F dX1_collectAll_184 kc_b64 ?_
      refine hx_icmp_ge (pc := 186) (tgt := 214) F (by omega) (by omega) dX1_collectAll_186 (by decide) (fun h186 => ?_) (fun h186 => absurd h186 (by omega))
      refine hx_sub [0] (lv' := [(0, .ref (hg_h G))]) rfl ?_
      exact K
    | succ n183 ih183 =>
      intro i τ hi183 hf183 hk183
      obtain ⟨hj183, hk183⟩ := hk183
      have hf183 : it_f cf_a6b n183 (i + 1) (cf_a6b i τ) = it_f cf_a6b 64 0 υ := hf183
      refine hx_iload_n (pc := 183) F dX1_collectAll_183 rfl 1 rfl ?_
      refine hx_bipush (pc := 184) F dX1_collectAll_184 kc_b64 ?_
      refine hx_icmp_ge (pc := 186) (tgt := 214) F (by omega) (by omega) dX1_collectAll_186 (by decide) (fun h186 => absurd h186 (by omega)) (fun h186 => ?_)
      have hj1 : τ 15 0 ≤ 64 := hj183
      refine hx_aload_n (pc := 189) F dX1_collectAll_189 rfl 0 rfl ?_
      refine h1_g2 (pc := 190) F rfl dX1_collectAll_190 ?_
      refine hx_iload_n (pc := 193) F dX1_collectAll_193 rfl 1 rfl ?_
      refine hx_iload_n (pc := 194) F dX1_collectAll_194 rfl 1 rfl ?_
      refine hx_aload_n (pc := 195) F dX1_collectAll_195 rfl 0 rfl ?_
      refine h1_g15 (pc := 196) F rfl dX1_collectAll_196 ?_
      refine hx_icmp_ge (pc := 199) (tgt := 206) F (by omega) (by omega) dX1_collectAll_199 (by decide) (fun h199 => ?_) (fun h199 => ?_)
      · refine hx_iconst (pc := 206) F dX1_collectAll_206 kc_i0 ?_
        refine h1_s2 (pc := 207) F (by omega) (by omega) dX1_collectAll_207 ?_
        refine hx_iinc (pc := 208) (lv' := [(0, .ref (hg_h G)), (1, .int (nI (i + 1)))]) F dX1_collectAll_208 1 rfl (hx_inc1 _) (by decide) [1, 0] rfl ?_
        refine hx_goto (pc := 211) (tgt := 183) F dX1_collectAll_211 (by decide) ?_
        have e183 : cf_a6b i τ = (hs_st τ 2 i 0) := (by unfold cf_a6b; (repeat' split) <;> first | (exfalso; omega) | rfl | contradiction)
        rw [e183] at hf183 hk183
        exact ih183 (i + 1) _ (by omega) hf183 hk183
      · refine hx_iconst (pc := 202) F dX1_collectAll_202 kc_i1 ?_
        refine hx_goto (pc := 203) (tgt := 207) F dX1_collectAll_203 (by decide) ?_
        refine h1_s2 (pc := 207) F (by omega) (by omega) dX1_collectAll_207 ?_
        refine hx_iinc (pc := 208) (lv' := [(0, .ref (hg_h G)), (1, .int (nI (i + 1)))]) F dX1_collectAll_208 1 rfl (hx_inc1 _) (by decide) [1, 0] rfl ?_
        refine hx_goto (pc := 211) (tgt := 183) F dX1_collectAll_211 (by decide) ?_
        have e183 : cf_a6b i τ = (hs_st τ 2 i 1) := (by unfold cf_a6b; (repeat' split) <;> first | (exfalso; omega) | rfl | contradiction)
        rw [e183] at hf183 hk183
        exact ih183 (i + 1) _ (by omega) hf183 hk183
  exact L183 (64) 0 υ (by omega) rfl hk
set_option maxHeartbeats 4000000 in
theorem ca_7 {X : hx_X} {G : hx_G} (F : hx_F X mX1_collectAll (V1 G)) (υ : hs_S) (hq : υ 15 0 ≤ 64) (hk : ∀ n, n = υ 15 0 → it_k ck_a7b cf_a7b n 0 υ) (K : hx_W X mX1_collectAll (V1 G) (it_f cf_a7b (υ 15 0) 0 υ) 290 [(0, .ref (hg_h G))] []) : hx_W X mX1_collectAll (V1 G) υ 214 [(0, .ref (hg_h G))] [] := by
  refine hx_iconst (pc := 214) F dX1_collectAll_214 kc_i0 ?_
  refine hx_istore_n (pc := 215) (lv' := [(0, .ref (hg_h G)), (1, .int (nI 0))]) F dX1_collectAll_215 rfl (by decide) [1, 0] rfl ?_
  have L216 : ∀ (n216 : Nat) (i : Nat) (τ : hs_S), i + n216 = υ 15 0 → it_f cf_a7b n216 i τ = it_f cf_a7b (υ 15 0) 0 υ → it_k ck_a7b cf_a7b n216 i τ → τ 15 0 = υ 15 0 → hx_W X mX1_collectAll (V1 G) τ 216 [(0, .ref (hg_h G)), (1, .int (nI i))] [] := by
    intro n216
    induction n216 with
    | zero =>
      intro i τ hi216 hf216 hk216 hN216
      have hz216 : i = υ 15 0 := by omega
      have hs216 : τ = it_f cf_a7b (υ 15 0) 0 υ := hf216
      refine hx_iload_n (pc := 216) F dX1_collectAll_216 rfl 1 rfl ?_
      refine hx_aload_n (pc := 217) F dX1_collectAll_217 rfl 0 rfl ?_
      refine h1_g15 (pc := 218) F rfl dX1_collectAll_218 ?_
      refine hx_icmp_ge (pc := 221) (tgt := 290) F (by omega) (by omega) dX1_collectAll_221 (by decide) (fun h221 => ?_) (fun h221 => absurd h221 (by omega))
      refine hx_as (σ' := (it_f cf_a7b (υ 15 0) 0 υ)) hs216 rfl rfl rfl ?_
      refine hx_sub [0] (lv' := [(0, .ref (hg_h G))]) rfl ?_
      exact K
    | succ n216 ih216 =>
      intro i τ hi216 hf216 hk216 hN216
      obtain ⟨hj216, hk216⟩ := hk216
      have hf216 : it_f cf_a7b n216 (i + 1) (cf_a7b i τ) = it_f cf_a7b (υ 15 0) 0 υ := hf216
      refine hx_iload_n (pc := 216) F dX1_collectAll_216 rfl 1 rfl ?_
      refine hx_aload_n (pc := 217) F dX1_collectAll_217 rfl 0 rfl ?_
      refine h1_g15 (pc := 218) F rfl dX1_collectAll_218 ?_
      refine hx_icmp_ge (pc := 221) (tgt := 290) F (by omega) (by omega) dX1_collectAll_221 (by decide) (fun h221 => absurd h221 (by omega)) (fun h221 => ?_)
      refine hx_aload_n (pc := 224) F dX1_collectAll_224 rfl 0 rfl ?_
      refine h1_g3 (pc := 225) F rfl dX1_collectAll_225 ?_
      refine hx_iload_n (pc := 228) F dX1_collectAll_228 rfl 1 rfl ?_
      refine hx_aload_n (pc := 229) F dX1_collectAll_229 rfl 0 rfl ?_
      refine h1_g16 (pc := 230) F rfl dX1_collectAll_230 ?_
      refine hx_iload_n (pc := 233) F dX1_collectAll_233 rfl 1 rfl ?_
      refine h1_l16 (pc := 234) F (by omega) dX1_collectAll_234 ?_
      refine h1_s3 (pc := 235) F (by omega) dX1_collectAll_235 ?_
      refine hx_iconst (pc := 236) F dX1_collectAll_236 kc_i0 ?_
      refine hx_istore_n (pc := 237) (lv' := [(0, .ref (hg_h G)), (1, .int (nI i)), (2, .int (nI 0))]) F dX1_collectAll_237 rfl (by decide) [1, 2, 0] rfl ?_
      have L238 : ∀ (n238 : Nat) (f : Nat) (ξ : hs_S), f + n238 = 3 → it_f (cf_a7f i) n238 f ξ = cf_a7b i τ → it_k (ck_a7f i) (cf_a7f i) n238 f ξ → hx_W X mX1_collectAll (V1 G) ξ 238 [(0, .ref (hg_h G)), (1, .int (nI i)), (2, .int (nI f))] [] := by
        intro n238
        induction n238 with
        | zero =>
          intro f ξ hi238 hf238 hk238
          have hz238 : f = 3 := by omega
          have hs238 : ξ = cf_a7b i τ := hf238
          refine hx_as (σ' := cf_a7b i τ) (lv' := [(0, .ref (hg_h G)), (1, .int (nI i)), (2, .int (nI 3))]) hs238 rfl (by rw [hz238]) rfl ?_
          refine hx_iload_n (pc := 238) F dX1_collectAll_238 rfl 2 rfl ?_
          refine hx_iconst (pc := 239) F dX1_collectAll_239 kc_i3 ?_
          refine hx_icmp_ge (pc := 240) (tgt := 284) F (by omega) (by omega) dX1_collectAll_240 (by decide) (fun h240 => ?_) (fun h240 => absurd h240 (by omega))
          refine hx_iinc (pc := 284) (lv' := [(0, .ref (hg_h G)), (1, .int (nI (i + 1))), (2, .int (nI 3))]) F dX1_collectAll_284 1 rfl (hx_inc1 _) (by decide) [1, 0, 2] rfl ?_
          refine hx_goto (pc := 287) (tgt := 216) F dX1_collectAll_287 (by decide) ?_
          refine hx_sub [0, 1] (lv' := [(0, .ref (hg_h G)), (1, .int (nI (i + 1)))]) rfl ?_
          have e216 : cf_a7b i τ = cf_a7b i τ := rfl
          rw [e216] at hf216 hk216
          exact ih216 (i + 1) _ (by omega) hf216 hk216 (by rw [cf_a7b_15]; exact hN216)
        | succ n238 ih238 =>
          intro f ξ hi238 hf238 hk238
          obtain ⟨hj238, hk238⟩ := hk238
          have hf238 : it_f (cf_a7f i) n238 (f + 1) (cf_a7f i f ξ) = cf_a7b i τ := hf238
          refine hx_iload_n (pc := 238) F dX1_collectAll_238 rfl 2 rfl ?_
          refine hx_iconst (pc := 239) F dX1_collectAll_239 kc_i3 ?_
          refine hx_icmp_ge (pc := 240) (tgt := 284) F (by omega) (by omega) dX1_collectAll_240 (by decide) (fun h240 => absurd h240 (by omega)) (fun h240 => ?_)
          refine hx_aload_n (pc := 243) F dX1_collectAll_243 rfl 0 rfl ?_
          refine h1_g4 (pc := 244) F rfl dX1_collectAll_244 ?_
          refine hx_iload_n (pc := 247) F dX1_collectAll_247 rfl 1 rfl ?_
          refine hx_iconst (pc := 248) F dX1_collectAll_248 kc_i3 ?_
          refine hx_imul (pc := 249) F dX1_collectAll_249 ?_
          refine hx_iload_n (pc := 250) F dX1_collectAll_250 rfl 2 rfl ?_
          refine hx_iadd (pc := 251) F dX1_collectAll_251 ?_
          refine hx_aload_n (pc := 252) F dX1_collectAll_252 rfl 0 rfl ?_
          refine h1_g17 (pc := 253) F rfl dX1_collectAll_253 ?_
          refine hx_iload_n (pc := 256) F dX1_collectAll_256 rfl 1 rfl ?_
          refine hx_iconst (pc := 257) F dX1_collectAll_257 kc_i3 ?_
          refine hx_imul (pc := 258) F dX1_collectAll_258 ?_
          refine hx_iload_n (pc := 259) F dX1_collectAll_259 rfl 2 rfl ?_
          refine hx_iadd (pc := 260) F dX1_collectAll_260 ?_
          refine h1_l17 (pc := 261) F (by omega) dX1_collectAll_261 ?_
          refine h1_s4 (pc := 262) F (by omega) dX1_collectAll_262 ?_
          refine hx_aload_n (pc := 263) F dX1_collectAll_263 rfl 0 rfl ?_
          refine hx_iload_n (pc := 264) F dX1_collectAll_264 rfl 1 rfl ?_
          refine hx_aload_n (pc := 265) F dX1_collectAll_265 rfl 0 rfl ?_
          refine h1_g4 (pc := 266) F rfl dX1_collectAll_266 ?_
          refine hx_iload_n (pc := 269) F dX1_collectAll_269 rfl 1 rfl ?_
          refine hx_iconst (pc := 270) F dX1_collectAll_270 kc_i3 ?_
          refine hx_imul (pc := 271) F dX1_collectAll_271 ?_
          refine hx_iload_n (pc := 272) F dX1_collectAll_272 rfl 2 rfl ?_
          refine hx_iadd (pc := 273) F dX1_collectAll_273 ?_
          refine h1_l4 (pc := 274) F (by omega) dX1_collectAll_274 ?_
          refine hx_topN (ξ 17 ((i * 3) + f)) (hs_same _ _ _ _) ?_
          refine hc_X1_remember (pc := 275) F rfl (by decide) (ct_X1_remember _ G (hs_st ξ 4 ((i * 3) + f) (ξ 17 ((i * 3) + f))) i (ξ 17 ((i * 3) + f)) ⟨by omega, hj238⟩) (Nat.le_of_ble_eq_true rfl) dX1_collectAll_275 ?_
          refine hx_iinc (pc := 278) (lv' := [(0, .ref (hg_h G)), (1, .int (nI i)), (2, .int (nI (f + 1)))]) F dX1_collectAll_278 2 rfl (hx_inc1 _) (by decide) [1, 2, 0] rfl ?_
          refine hx_goto (pc := 281) (tgt := 238) F dX1_collectAll_281 (by decide) ?_
          have e238 : cf_a7f i f ξ = cf_rem (hs_st ξ 4 ((i * 3) + f) (ξ 17 ((i * 3) + f))) i (ξ 17 ((i * 3) + f)) := rfl
          rw [e238] at hf238 hk238
          exact ih238 (f + 1) _ (by omega) hf238 hk238
      exact L238 (3) 0 (hs_st τ 3 i (τ 16 i)) (by omega) rfl hj216
  exact L216 (υ 15 0) 0 υ (by omega) rfl (hk _ rfl) rfl
set_option maxHeartbeats 4000000 in
theorem ct_X1_collectAll (l : Launch) (G : hx_G) (σ : hs_S) (hk : ck_all σ) : hx_cV l yX1_collectAll mX1_collectAll (V1 G) σ [.ref (hg_h G)] (cf_all σ) := by
  obtain ⟨hA1, hA2, hA3, hA4, hA5, hA6, hA7, hA8, hA9, hA10⟩ := hk
  refine hx_enterV (by decide +kernel) rfl (Nat.le_of_ble_eq_true rfl) (fun X E F => ?_)
  show hx_W X mX1_collectAll (V1 G) σ 0 [(0, .ref (hg_h G))] []
  refine hx_aload_n (pc := 0) F dX1_collectAll_0 rfl 0 rfl ?_
  refine hc_X1_walkFromRoots (pc := 1) F rfl (by decide) (ct_X1_walkFromRoots _ G σ hA1) (Nat.le_of_ble_eq_true rfl) dX1_collectAll_1 ?_
  refine ca_1 F (cf_walk σ) ?_
  show hx_W X mX1_collectAll (V1 G) (cf_a1 σ) 25 [(0, .ref (hg_h G))] []
  refine ca_2 F (cf_a1 σ) hA2 hA3 ?_
  show hx_W X mX1_collectAll (V1 G) (cf_a2 σ) 55 [(0, .ref (hg_h G))] []
  refine ca_3 F (cf_a2 σ) hA4 hA5 ?_
  show hx_W X mX1_collectAll (V1 G) (cf_a3 σ) 130 [(0, .ref (hg_h G))] []
  refine ca_4 F (cf_a3 σ) hA6 ?_
  show hx_W X mX1_collectAll (V1 G) (cf_a4 σ) 160 [(0, .ref (hg_h G))] []
  refine ca_5 F (cf_a4 σ) ?_
  show hx_W X mX1_collectAll (V1 G) (cf_a5 σ) 181 [(0, .ref (hg_h G))] []
  refine ca_6 F (cf_a5 σ) hA8 ?_
  show hx_W X mX1_collectAll (V1 G) (cf_a6 σ) 214 [(0, .ref (hg_h G))] []
  refine ca_7 F (cf_a6 σ) hA7 hA9 ?_
  show hx_W X mX1_collectAll (V1 G) (cf_a7 σ) 290 [(0, .ref (hg_h G))] []
  refine hx_aload_n (pc := 290) F dX1_collectAll_290 rfl 0 rfl ?_
  refine hx_aload_n (pc := 291) F dX1_collectAll_291 rfl 0 rfl ?_
  refine h1_g15 (pc := 292) F rfl dX1_collectAll_292 ?_
  refine hc_X1_layOut (pc := 295) F rfl (by decide) (ct_X1_layOut _ G (cf_a7 σ) (cf_a7 σ 15 0) hA10) (Nat.le_of_ble_eq_true rfl) dX1_collectAll_295 ?_
  exact hx_vret (pc := 298) F E rfl rfl dX1_collectAll_298
set_option maxHeartbeats 4000000 in
theorem ct_X1_newSlot (l : Launch) (G : hx_G) (σ : hs_S) (hk : ck_new σ) : hx_cI l yX1_newSlot mX1_newSlot (V1 G) σ [.ref (hg_h G)] (cf_bs (cf_n2 σ)) (cf_bump (cf_n2 σ)) := by
  refine hx_enterI (by decide +kernel) rfl (Nat.le_of_ble_eq_true rfl) (fun X E F => ?_)
  show hx_W X mX1_newSlot (V1 G) σ 0 [(0, .ref (hg_h G))] []
  have hk1 : σ 0 0 ≤ 8 := hk.1
  refine hx_iconst (pc := 0) F dX1_newSlot_0 kc_i0 ?_
  refine hx_istore_n (pc := 1) (lv' := [(0, .ref (hg_h G)), (1, .int (nI 0))]) F dX1_newSlot_1 rfl (by decide) [1, 0] rfl ?_
  have L2 : ∀ (n2 : Nat) (i : Nat) (τ : hs_S), i + n2 = 2 * σ 0 0 → cf_ns n2 τ = cf_n1 σ → ck_ns (σ 0 0) n2 τ → hx_W X mX1_newSlot (V1 G) τ 2 [(0, .ref (hg_h G)), (1, .int (nI i))] [] := by
    intro n2
    induction n2 with
    | zero =>
      intro i τ hi2 hf2 hc2
      have hs : τ = cf_n1 σ := hf2
      have hc2 : τ 0 0 = σ 0 0 := hc2
      refine hx_iload_n (pc := 2) F dX1_newSlot_2 rfl 1 rfl ?_
      refine hx_iconst (pc := 3) F dX1_newSlot_3 kc_i2 ?_
      refine hx_aload_n (pc := 4) F dX1_newSlot_4 rfl 0 rfl ?_
      refine h1_g0 (pc := 5) F rfl dX1_newSlot_5 ?_
      refine hx_imul (pc := 8) F dX1_newSlot_8 ?_
      refine hx_icmp_ge (pc := 9) (tgt := 40) F (by omega) (by omega) dX1_newSlot_9 (by decide) (fun h9 => ?_) (fun h9 => absurd h9 (by omega))
      have hq3 : τ 8 0 < 2147483648 := by rw [hs]; exact hk.2.2.1
      have hq4 : τ 5 0 < 2147483648 := by rw [hs]; exact hk.2.2.2.1
      refine hx_aload_n (pc := 40) F dX1_newSlot_40 rfl 0 rfl ?_
      refine h1_g8 (pc := 41) F rfl dX1_newSlot_41 ?_
      refine hx_bipush (pc := 44) F dX1_newSlot_44 kc_b8 ?_
      refine hx_icmp_lt (pc := 46) (tgt := 62) F (by omega) (by omega) dX1_newSlot_46 (by decide) (fun h46 => ?_) (fun h46 => ?_)
      · have hn : τ = cf_n2 σ := by rw [hs] at h46 ⊢; exact (if_pos h46).symm
        refine hx_aload_n (pc := 62) F dX1_newSlot_62 rfl 0 rfl ?_
        refine hc_X1_bump (pc := 63) F rfl (by decide) (ct_X1_bump _ G τ  (by rw [hn]; exact hk.2.2.2.2.2)) (Nat.le_of_ble_eq_true rfl) dX1_newSlot_63 ?_
        exact hx_iret (pc := 66) F E rfl rfl ⟨congrArg nI (by rw [hn]), by rw [hn]⟩ dX1_newSlot_66
      · refine hx_aload_n (pc := 49) F dX1_newSlot_49 rfl 0 rfl ?_
        refine h1_g5 (pc := 50) F rfl dX1_newSlot_50 ?_
        refine hx_bipush (pc := 53) F dX1_newSlot_53 kc_b7 ?_
        refine hx_icmp_lt (pc := 55) (tgt := 62) F (by omega) (by omega) dX1_newSlot_55 (by decide) (fun h55 => ?_) (fun h55 => ?_)
        · have hn : τ = cf_n2 σ := by rw [hs] at h46 h55 ⊢; exact ((if_neg (Nat.not_lt.mpr h46)).trans (if_pos h55)).symm
          refine hx_aload_n (pc := 62) F dX1_newSlot_62 rfl 0 rfl ?_
          refine hc_X1_bump (pc := 63) F rfl (by decide) (ct_X1_bump _ G τ  (by rw [hn]; exact hk.2.2.2.2.2)) (Nat.le_of_ble_eq_true rfl) dX1_newSlot_63 ?_
          exact hx_iret (pc := 66) F E rfl rfl ⟨congrArg nI (by rw [hn]), by rw [hn]⟩ dX1_newSlot_66
        · refine hx_aload_n (pc := 58) F dX1_newSlot_58 rfl 0 rfl ?_
          refine hc_X1_collectAll (pc := 59) F rfl (by decide) (ct_X1_collectAll _ G τ  (by rw [hs] at h46 h55 ⊢; exact hk.2.2.2.2.1 h46 h55)) (Nat.le_of_ble_eq_true rfl) dX1_newSlot_59 ?_
          refine hx_gen (fun ω hω => ?_)
          have hn : ω = cf_n2 σ := by rw [hω]; rw [hs] at h46 h55 ⊢; exact ((if_neg (Nat.not_lt.mpr h46)).trans (if_neg (Nat.not_lt.mpr h55))).symm
          refine hx_aload_n (pc := 62) F dX1_newSlot_62 rfl 0 rfl ?_
          refine hc_X1_bump (pc := 63) F rfl (by decide) (ct_X1_bump _ G ω  (by rw [hn]; exact hk.2.2.2.2.2)) (Nat.le_of_ble_eq_true rfl) dX1_newSlot_63 ?_
          exact hx_iret (pc := 66) F E rfl rfl ⟨congrArg nI (by rw [hn]), by rw [hn]⟩ dX1_newSlot_66
    | succ n2 ih2 =>
      intro i τ hi2 hf2 hc2
      have hf2 : (if τ 8 0 < 8 then τ else if τ 5 0 < 7 then τ else cf_ns n2 (cf_mw τ)) = cf_n1 σ := hf2
      obtain ⟨hc3, hc4, hc5, hc6⟩ := hc2
      refine hx_iload_n (pc := 2) F dX1_newSlot_2 rfl 1 rfl ?_
      refine hx_iconst (pc := 3) F dX1_newSlot_3 kc_i2 ?_
      refine hx_aload_n (pc := 4) F dX1_newSlot_4 rfl 0 rfl ?_
      refine h1_g0 (pc := 5) F rfl dX1_newSlot_5 ?_
      refine hx_imul (pc := 8) F dX1_newSlot_8 ?_
      refine hx_icmp_ge (pc := 9) (tgt := 40) F (by omega) (by omega) dX1_newSlot_9 (by decide) (fun h9 => absurd h9 (by omega)) (fun h9 => ?_)
      refine hx_aload_n (pc := 12) F dX1_newSlot_12 rfl 0 rfl ?_
      refine h1_g8 (pc := 13) F rfl dX1_newSlot_13 ?_
      refine hx_bipush (pc := 16) F dX1_newSlot_16 kc_b8 ?_
      refine hx_icmp_lt (pc := 18) (tgt := 40) F (by omega) (by omega) dX1_newSlot_18 (by decide) (fun h18 => ?_) (fun h18 => ?_)
      · have hs : τ = cf_n1 σ := by rw [← hf2]; exact (if_pos h18).symm
        have hq3 : τ 8 0 < 2147483648 := by rw [hs]; exact hk.2.2.1
        have hq4 : τ 5 0 < 2147483648 := by rw [hs]; exact hk.2.2.2.1
        refine hx_aload_n (pc := 40) F dX1_newSlot_40 rfl 0 rfl ?_
        refine h1_g8 (pc := 41) F rfl dX1_newSlot_41 ?_
        refine hx_bipush (pc := 44) F dX1_newSlot_44 kc_b8 ?_
        refine hx_icmp_lt (pc := 46) (tgt := 62) F (by omega) (by omega) dX1_newSlot_46 (by decide) (fun h46 => ?_) (fun h46 => ?_)
        · have hn : τ = cf_n2 σ := by rw [hs] at h46 ⊢; exact (if_pos h46).symm
          refine hx_aload_n (pc := 62) F dX1_newSlot_62 rfl 0 rfl ?_
          refine hc_X1_bump (pc := 63) F rfl (by decide) (ct_X1_bump _ G τ  (by rw [hn]; exact hk.2.2.2.2.2)) (Nat.le_of_ble_eq_true rfl) dX1_newSlot_63 ?_
          exact hx_iret (pc := 66) F E rfl rfl ⟨congrArg nI (by rw [hn]), by rw [hn]⟩ dX1_newSlot_66
        · refine hx_aload_n (pc := 49) F dX1_newSlot_49 rfl 0 rfl ?_
          refine h1_g5 (pc := 50) F rfl dX1_newSlot_50 ?_
          refine hx_bipush (pc := 53) F dX1_newSlot_53 kc_b7 ?_
          refine hx_icmp_lt (pc := 55) (tgt := 62) F (by omega) (by omega) dX1_newSlot_55 (by decide) (fun h55 => ?_) (fun h55 => ?_)
          · have hn : τ = cf_n2 σ := by rw [hs] at h46 h55 ⊢; exact ((if_neg (Nat.not_lt.mpr h46)).trans (if_pos h55)).symm
            refine hx_aload_n (pc := 62) F dX1_newSlot_62 rfl 0 rfl ?_
            refine hc_X1_bump (pc := 63) F rfl (by decide) (ct_X1_bump _ G τ  (by rw [hn]; exact hk.2.2.2.2.2)) (Nat.le_of_ble_eq_true rfl) dX1_newSlot_63 ?_
            exact hx_iret (pc := 66) F E rfl rfl ⟨congrArg nI (by rw [hn]), by rw [hn]⟩ dX1_newSlot_66
          · refine hx_aload_n (pc := 58) F dX1_newSlot_58 rfl 0 rfl ?_
            refine hc_X1_collectAll (pc := 59) F rfl (by decide) (ct_X1_collectAll _ G τ  (by rw [hs] at h46 h55 ⊢; exact hk.2.2.2.2.1 h46 h55)) (Nat.le_of_ble_eq_true rfl) dX1_newSlot_59 ?_
            refine hx_gen (fun ω hω => ?_)
            have hn : ω = cf_n2 σ := by rw [hω]; rw [hs] at h46 h55 ⊢; exact ((if_neg (Nat.not_lt.mpr h46)).trans (if_neg (Nat.not_lt.mpr h55))).symm
            refine hx_aload_n (pc := 62) F dX1_newSlot_62 rfl 0 rfl ?_
            refine hc_X1_bump (pc := 63) F rfl (by decide) (ct_X1_bump _ G ω  (by rw [hn]; exact hk.2.2.2.2.2)) (Nat.le_of_ble_eq_true rfl) dX1_newSlot_63 ?_
            exact hx_iret (pc := 66) F E rfl rfl ⟨congrArg nI (by rw [hn]), by rw [hn]⟩ dX1_newSlot_66
      · refine hx_aload_n (pc := 21) F dX1_newSlot_21 rfl 0 rfl ?_
        refine h1_g5 (pc := 22) F rfl dX1_newSlot_22 ?_
        refine hx_bipush (pc := 25) F dX1_newSlot_25 kc_b7 ?_
        refine hx_icmp_lt (pc := 27) (tgt := 40) F (by omega) (by omega) dX1_newSlot_27 (by decide) (fun h27 => ?_) (fun h27 => ?_)
        · have hs : τ = cf_n1 σ := by rw [← hf2, if_neg (by omega), if_pos h27]
          have hq3 : τ 8 0 < 2147483648 := by rw [hs]; exact hk.2.2.1
          have hq4 : τ 5 0 < 2147483648 := by rw [hs]; exact hk.2.2.2.1
          refine hx_aload_n (pc := 40) F dX1_newSlot_40 rfl 0 rfl ?_
          refine h1_g8 (pc := 41) F rfl dX1_newSlot_41 ?_
          refine hx_bipush (pc := 44) F dX1_newSlot_44 kc_b8 ?_
          refine hx_icmp_lt (pc := 46) (tgt := 62) F (by omega) (by omega) dX1_newSlot_46 (by decide) (fun h46 => ?_) (fun h46 => ?_)
          · have hn : τ = cf_n2 σ := by rw [hs] at h46 ⊢; exact (if_pos h46).symm
            refine hx_aload_n (pc := 62) F dX1_newSlot_62 rfl 0 rfl ?_
            refine hc_X1_bump (pc := 63) F rfl (by decide) (ct_X1_bump _ G τ  (by rw [hn]; exact hk.2.2.2.2.2)) (Nat.le_of_ble_eq_true rfl) dX1_newSlot_63 ?_
            exact hx_iret (pc := 66) F E rfl rfl ⟨congrArg nI (by rw [hn]), by rw [hn]⟩ dX1_newSlot_66
          · refine hx_aload_n (pc := 49) F dX1_newSlot_49 rfl 0 rfl ?_
            refine h1_g5 (pc := 50) F rfl dX1_newSlot_50 ?_
            refine hx_bipush (pc := 53) F dX1_newSlot_53 kc_b7 ?_
            refine hx_icmp_lt (pc := 55) (tgt := 62) F (by omega) (by omega) dX1_newSlot_55 (by decide) (fun h55 => ?_) (fun h55 => ?_)
            · have hn : τ = cf_n2 σ := by rw [hs] at h46 h55 ⊢; exact ((if_neg (Nat.not_lt.mpr h46)).trans (if_pos h55)).symm
              refine hx_aload_n (pc := 62) F dX1_newSlot_62 rfl 0 rfl ?_
              refine hc_X1_bump (pc := 63) F rfl (by decide) (ct_X1_bump _ G τ  (by rw [hn]; exact hk.2.2.2.2.2)) (Nat.le_of_ble_eq_true rfl) dX1_newSlot_63 ?_
              exact hx_iret (pc := 66) F E rfl rfl ⟨congrArg nI (by rw [hn]), by rw [hn]⟩ dX1_newSlot_66
            · refine hx_aload_n (pc := 58) F dX1_newSlot_58 rfl 0 rfl ?_
              refine hc_X1_collectAll (pc := 59) F rfl (by decide) (ct_X1_collectAll _ G τ  (by rw [hs] at h46 h55 ⊢; exact hk.2.2.2.2.1 h46 h55)) (Nat.le_of_ble_eq_true rfl) dX1_newSlot_59 ?_
              refine hx_gen (fun ω hω => ?_)
              have hn : ω = cf_n2 σ := by rw [hω]; rw [hs] at h46 h55 ⊢; exact ((if_neg (Nat.not_lt.mpr h46)).trans (if_neg (Nat.not_lt.mpr h55))).symm
              refine hx_aload_n (pc := 62) F dX1_newSlot_62 rfl 0 rfl ?_
              refine hc_X1_bump (pc := 63) F rfl (by decide) (ct_X1_bump _ G ω  (by rw [hn]; exact hk.2.2.2.2.2)) (Nat.le_of_ble_eq_true rfl) dX1_newSlot_63 ?_
              exact hx_iret (pc := 66) F E rfl rfl ⟨congrArg nI (by rw [hn]), by rw [hn]⟩ dX1_newSlot_66
        · obtain ⟨hc7, hc8⟩ := hc6 h18 h27
          refine hx_aload_n (pc := 30) F dX1_newSlot_30 rfl 0 rfl ?_
          refine hc_X1_moveWindow (pc := 31) F rfl (by decide) (ct_X1_moveWindow _ G τ  hc7) (Nat.le_of_ble_eq_true rfl) dX1_newSlot_31 ?_
          refine hx_iinc (pc := 34) (lv' := [(0, .ref (hg_h G)), (1, .int (nI (i + 1)))]) F dX1_newSlot_34 1 rfl (hx_inc1 _) (by decide) [1, 0] rfl ?_
          refine hx_goto (pc := 37) (tgt := 2) F dX1_newSlot_37 (by decide) ?_
          exact ih2 (i + 1) _ (by omega) (by rw [← hf2, if_neg (by omega), if_neg (by omega)]) hc8
  exact L2 (2 * σ 0 0) 0 σ (by omega) rfl hk.2.1
end
section
set_option maxRecDepth 100000
set_option maxHeartbeats 4000000 in
theorem ct_X1_make (l : Launch) (G : hx_G) (σ : hs_S) (r : Nat) (v : Nat) (hk : r < 4294967296 ∧ ck_make σ r) : hx_cI l yX1_make mX1_make (V1 G) σ [.ref (hg_h G), .int (nI r), .int (nI v)] (cr_make σ r) (cf_make σ r v) := by
  refine hx_enterI (by decide +kernel) rfl (Nat.le_of_ble_eq_true rfl) (fun X E F => ?_)
  show hx_W X mX1_make (V1 G) σ 0 [(0, .ref (hg_h G)), (1, .int (nI r)), (2, .int (nI v))] []
  obtain ⟨hk0, hk1⟩ := hk
  refine hx_iload_n (pc := 0) F dX1_make_0 rfl 1 rfl ?_
  refine hc_X1_badRoot (pc := 1) F rfl (by decide) (ct_X1_badRoot _ G σ r hk0) (Nat.le_of_ble_eq_true rfl) dX1_make_1 ?_
  refine hx_if_eq (pc := 4) (tgt := 9) F (cf_bad_lt _) dX1_make_4 (by decide) (fun h4 => ?_) (fun h4 => ?_)
  · have hb4 : r < 8 := cf_bad_0.mp h4
    refine hx_aload_n (pc := 9) F dX1_make_9 rfl 0 rfl ?_
    refine hc_X1_walkFromRoots (pc := 10) F rfl (by decide) (ct_X1_walkFromRoots _ G σ  (hk1 hb4).1) (Nat.le_of_ble_eq_true rfl) dX1_make_10 ?_
    refine hx_gen (fun ω hω => ?_)
    have hq1 : ω 15 0 < 2147483648 := by rw [hω]; exact (hk1 hb4).2.1
    refine hx_aload_n (pc := 13) F dX1_make_13 rfl 0 rfl ?_
    refine h1_g15 (pc := 14) F rfl dX1_make_14 ?_
    refine hx_bipush (pc := 17) F dX1_make_17 kc_b24 ?_
    refine hx_icmp_lt (pc := 19) (tgt := 25) F (by omega) (by omega) dX1_make_19 (by decide) (fun h19 => ?_) (fun h19 => ?_)
    · refine hx_aload_n (pc := 25) F dX1_make_25 rfl 0 rfl ?_
      refine hc_X1_newSlot (pc := 26) F rfl (by decide) (ct_X1_newSlot _ G ω  (by rw [hω] at h19 ⊢; exact ((hk1 hb4).2.2 h19).1)) (Nat.le_of_ble_eq_true rfl) dX1_make_26 ?_
      refine hx_name (fun slot hslot => ?_)
      refine hx_gen (fun ω2 hω2 => ?_)
      have hq2 : slot < 64 := by rw [hslot]; rw [hω] at h19 ⊢; exact ((hk1 hb4).2.2 h19).2
      refine hx_istore_n (pc := 29) (lv' := [(0, .ref (hg_h G)), (1, .int (nI r)), (2, .int (nI v)), (3, .int (nI slot))]) F dX1_make_29 rfl (by decide) [1, 2, 3, 0] rfl ?_
      refine hx_aload_n (pc := 30) F dX1_make_30 rfl 0 rfl ?_
      refine h1_g3 (pc := 31) F rfl dX1_make_31 ?_
      refine hx_iload_n (pc := 34) F dX1_make_34 rfl 3 rfl ?_
      refine hx_iload_n (pc := 35) F dX1_make_35 rfl 2 rfl ?_
      refine h1_s3 (pc := 36) F (by omega) dX1_make_36 ?_
      refine hx_iconst (pc := 37) F dX1_make_37 kc_i0 ?_
      refine hx_istore (pc := 38) (lv' := [(0, .ref (hg_h G)), (1, .int (nI r)), (2, .int (nI v)), (3, .int (nI slot)), (4, .int (nI 0))]) F dX1_make_38 (by decide) [1, 2, 3, 4, 0] rfl ?_
      have L40 : ∀ (n40 : Nat) (f : Nat) (τ : hs_S), f + n40 = 3 → it_f (cf_k1 slot) n40 f τ = it_f (cf_k1 slot) 3 0 (hs_st ω2 3 slot v) → hx_W X mX1_make (V1 G) τ 40 [(0, .ref (hg_h G)), (1, .int (nI r)), (2, .int (nI v)), (3, .int (nI slot)), (4, .int (nI f))] [] := by
        intro n40
        induction n40 with
        | zero =>
          intro f τ hi40 hf40
          have hz40 : f = 3 := by omega
          have hs40 : τ = it_f (cf_k1 slot) 3 0 (hs_st ω2 3 slot v) := hf40
          refine hx_as (σ' := it_f (cf_k1 slot) 3 0 (hs_st ω2 3 slot v)) (lv' := [(0, .ref (hg_h G)), (1, .int (nI r)), (2, .int (nI v)), (3, .int (nI slot)), (4, .int (nI 3))]) hs40 rfl (by rw [hz40]) rfl ?_
          refine hx_iload (pc := 40) F dX1_make_40 4 rfl ?_
          refine hx_iconst (pc := 42) F dX1_make_42 kc_i3 ?_
          refine hx_icmp_ge (pc := 43) (tgt := 64) F (by omega) (by omega) dX1_make_43 (by decide) (fun h43 => ?_) (fun h43 => absurd h43 (by omega))
          refine hx_aload_n (pc := 64) F dX1_make_64 rfl 0 rfl ?_
          refine h1_g1 (pc := 65) F rfl dX1_make_65 ?_
          refine hx_iload_n (pc := 68) F dX1_make_68 rfl 1 rfl ?_
          refine hx_iload_n (pc := 69) F dX1_make_69 rfl 3 rfl ?_
          refine hx_iconst (pc := 70) F dX1_make_70 kc_i1 ?_
          refine hx_iadd (pc := 71) F dX1_make_71 ?_
          refine h1_s1 (pc := 72) F (by omega) dX1_make_72 ?_
          refine hx_iconst (pc := 73) F dX1_make_73 kc_i0 ?_
          exact hx_iret (pc := 74) F E rfl rfl ⟨congrArg nI (by unfold cr_make; rw [if_pos hb4, if_neg (by rw [← hω]; omega)]), by unfold cf_make; rw [if_pos hb4, if_neg (by rw [← hω]; omega), hslot, hω2, hω]; rfl⟩ dX1_make_74
        | succ n40 ih40 =>
          intro f τ hi40 hf40
          have hf40 : it_f (cf_k1 slot) n40 (f + 1) (cf_k1 slot f τ) = it_f (cf_k1 slot) 3 0 (hs_st ω2 3 slot v) := hf40
          refine hx_iload (pc := 40) F dX1_make_40 4 rfl ?_
          refine hx_iconst (pc := 42) F dX1_make_42 kc_i3 ?_
          refine hx_icmp_ge (pc := 43) (tgt := 64) F (by omega) (by omega) dX1_make_43 (by decide) (fun h43 => absurd h43 (by omega)) (fun h43 => ?_)
          refine hx_aload_n (pc := 46) F dX1_make_46 rfl 0 rfl ?_
          refine h1_g4 (pc := 47) F rfl dX1_make_47 ?_
          refine hx_iload_n (pc := 50) F dX1_make_50 rfl 3 rfl ?_
          refine hx_iconst (pc := 51) F dX1_make_51 kc_i3 ?_
          refine hx_imul (pc := 52) F dX1_make_52 ?_
          refine hx_iload (pc := 53) F dX1_make_53 4 rfl ?_
          refine hx_iadd (pc := 55) F dX1_make_55 ?_
          refine hx_iconst (pc := 56) F dX1_make_56 kc_i0 ?_
          refine h1_s4 (pc := 57) F (by omega) dX1_make_57 ?_
          refine hx_iinc (pc := 58) (lv' := [(0, .ref (hg_h G)), (1, .int (nI r)), (2, .int (nI v)), (3, .int (nI slot)), (4, .int (nI (f + 1)))]) F dX1_make_58 4 rfl (hx_inc1 _) (by decide) [1, 2, 3, 4, 0] rfl ?_
          refine hx_goto (pc := 61) (tgt := 40) F dX1_make_61 (by decide) ?_
          have e40 : cf_k1 slot f τ = (hs_st τ 4 ((slot * 3) + f) 0) := rfl
          rw [e40] at hf40
          exact ih40 (f + 1) _ (by omega) hf40
      exact L40 (3) 0 (hs_st ω2 3 slot v) (by omega) rfl
    · refine hx_bipush (pc := 22) F dX1_make_22 kc_bm4 ?_
      exact hx_iret (pc := 24) F E rfl rfl ⟨congrArg nI (by unfold cr_make; rw [if_pos hb4, if_pos (by rw [← hω]; exact h19)]), by unfold cf_make; rw [if_pos hb4, if_pos (by rw [← hω]; exact h19), hω]⟩ dX1_make_24
  · have hb4 : ¬ r < 8 := fun q => h4 (cf_bad_0.mpr q)
    refine hx_iconst (pc := 7) F dX1_make_7 kc_im1 ?_
    exact hx_iret (pc := 8) F E rfl rfl ⟨congrArg nI (if_neg hb4 : cr_make σ r = 4294967295).symm, (if_neg hb4 : cf_make σ r v = σ).symm⟩ dX1_make_8
set_option maxHeartbeats 4000000 in
theorem ct_X1_copyRoot (l : Launch) (G : hx_G) (σ : hs_S) (a : Nat) (b : Nat) (hk : a < 4294967296 ∧ b < 4294967296) : hx_cI l yX1_copyRoot mX1_copyRoot (V1 G) σ [.ref (hg_h G), .int (nI a), .int (nI b)] (cr_copy a b) (cf_copy σ a b) := by
  refine hx_enterI (by decide +kernel) rfl (Nat.le_of_ble_eq_true rfl) (fun X E F => ?_)
  show hx_W X mX1_copyRoot (V1 G) σ 0 [(0, .ref (hg_h G)), (1, .int (nI a)), (2, .int (nI b))] []
  obtain ⟨hk0, hk1⟩ := hk
  refine hx_iload_n (pc := 0) F dX1_copyRoot_0 rfl 1 rfl ?_
  refine hc_X1_badRoot (pc := 1) F rfl (by decide) (ct_X1_badRoot _ G σ a hk0) (Nat.le_of_ble_eq_true rfl) dX1_copyRoot_1 ?_
  refine hx_if_ne (pc := 4) (tgt := 14) F (cf_bad_lt _) dX1_copyRoot_4 (by decide) (fun h4 => ?_) (fun h4 => ?_)
  · have hb4 : ¬ a < 8 := fun q => h4 (cf_bad_0.mpr q)
    refine hx_iconst (pc := 14) F dX1_copyRoot_14 kc_im1 ?_
    exact hx_iret (pc := 15) F E rfl rfl ⟨congrArg nI (by unfold cr_copy; (repeat' split) <;> first | (exfalso; omega) | rfl | contradiction), (by unfold cf_copy; (repeat' split) <;> first | (exfalso; omega) | rfl | contradiction)⟩ dX1_copyRoot_15
  · have hb4 : a < 8 := cf_bad_0.mp h4
    refine hx_iload_n (pc := 7) F dX1_copyRoot_7 rfl 2 rfl ?_
    refine hc_X1_badRoot (pc := 8) F rfl (by decide) (ct_X1_badRoot _ G σ b hk1) (Nat.le_of_ble_eq_true rfl) dX1_copyRoot_8 ?_
    refine hx_if_eq (pc := 11) (tgt := 16) F (cf_bad_lt _) dX1_copyRoot_11 (by decide) (fun h11 => ?_) (fun h11 => ?_)
    · have hb11 : b < 8 := cf_bad_0.mp h11
      refine hx_aload_n (pc := 16) F dX1_copyRoot_16 rfl 0 rfl ?_
      refine h1_g1 (pc := 17) F rfl dX1_copyRoot_17 ?_
      refine hx_iload_n (pc := 20) F dX1_copyRoot_20 rfl 2 rfl ?_
      refine hx_aload_n (pc := 21) F dX1_copyRoot_21 rfl 0 rfl ?_
      refine h1_g1 (pc := 22) F rfl dX1_copyRoot_22 ?_
      refine hx_iload_n (pc := 25) F dX1_copyRoot_25 rfl 1 rfl ?_
      refine h1_l1 (pc := 26) F (by omega) dX1_copyRoot_26 ?_
      refine h1_s1 (pc := 27) F (by omega) dX1_copyRoot_27 ?_
      refine hx_iconst (pc := 28) F dX1_copyRoot_28 kc_i0 ?_
      exact hx_iret (pc := 29) F E rfl rfl ⟨congrArg nI (by unfold cr_copy; (repeat' split) <;> first | (exfalso; omega) | rfl | contradiction), (by unfold cf_copy; (repeat' split) <;> first | (exfalso; omega) | rfl | contradiction)⟩ dX1_copyRoot_29
    · have hb11 : ¬ b < 8 := fun q => h11 (cf_bad_0.mpr q)
      refine hx_iconst (pc := 14) F dX1_copyRoot_14 kc_im1 ?_
      exact hx_iret (pc := 15) F E rfl rfl ⟨congrArg nI (by unfold cr_copy; (repeat' split) <;> first | (exfalso; omega) | rfl | contradiction), (by unfold cf_copy; (repeat' split) <;> first | (exfalso; omega) | rfl | contradiction)⟩ dX1_copyRoot_15
set_option maxHeartbeats 4000000 in
theorem ct_X1_drop (l : Launch) (G : hx_G) (σ : hs_S) (a : Nat) (hk : a < 4294967296) : hx_cI l yX1_drop mX1_drop (V1 G) σ [.ref (hg_h G), .int (nI a)] (cr_drop a) (cf_drop σ a) := by
  refine hx_enterI (by decide +kernel) rfl (Nat.le_of_ble_eq_true rfl) (fun X E F => ?_)
  show hx_W X mX1_drop (V1 G) σ 0 [(0, .ref (hg_h G)), (1, .int (nI a))] []
  refine hx_iload_n (pc := 0) F dX1_drop_0 rfl 1 rfl ?_
  refine hc_X1_badRoot (pc := 1) F rfl (by decide) (ct_X1_badRoot _ G σ a hk) (Nat.le_of_ble_eq_true rfl) dX1_drop_1 ?_
  refine hx_if_eq (pc := 4) (tgt := 9) F (cf_bad_lt _) dX1_drop_4 (by decide) (fun h4 => ?_) (fun h4 => ?_)
  · have hb4 : a < 8 := cf_bad_0.mp h4
    refine hx_aload_n (pc := 9) F dX1_drop_9 rfl 0 rfl ?_
    refine h1_g1 (pc := 10) F rfl dX1_drop_10 ?_
    refine hx_iload_n (pc := 13) F dX1_drop_13 rfl 1 rfl ?_
    refine hx_iconst (pc := 14) F dX1_drop_14 kc_i0 ?_
    refine h1_s1 (pc := 15) F (by omega) dX1_drop_15 ?_
    refine hx_iconst (pc := 16) F dX1_drop_16 kc_i0 ?_
    exact hx_iret (pc := 17) F E rfl rfl ⟨congrArg nI (by unfold cr_drop; (repeat' split) <;> first | (exfalso; omega) | rfl | contradiction), (by unfold cf_drop; (repeat' split) <;> first | (exfalso; omega) | rfl | contradiction)⟩ dX1_drop_17
  · have hb4 : ¬ a < 8 := fun q => h4 (cf_bad_0.mpr q)
    refine hx_iconst (pc := 7) F dX1_drop_7 kc_im1 ?_
    exact hx_iret (pc := 8) F E rfl rfl ⟨congrArg nI (by unfold cr_drop; (repeat' split) <;> first | (exfalso; omega) | rfl | contradiction), (by unfold cf_drop; (repeat' split) <;> first | (exfalso; omega) | rfl | contradiction)⟩ dX1_drop_8
set_option maxHeartbeats 4000000 in
theorem ct_X1_load (l : Launch) (G : hx_G) (σ : hs_S) (r : Nat) (f : Nat) (t : Nat) (hk : r < 4294967296 ∧ f < 4294967296 ∧ t < 4294967296 ∧ ck_ref σ) : hx_cI l yX1_load mX1_load (V1 G) σ [.ref (hg_h G), .int (nI r), .int (nI f), .int (nI t)] (cr_ref σ r f t) (cf_load σ r f t) := by
  refine hx_enterI (by decide +kernel) rfl (Nat.le_of_ble_eq_true rfl) (fun X E F => ?_)
  show hx_W X mX1_load (V1 G) σ 0 [(0, .ref (hg_h G)), (1, .int (nI r)), (2, .int (nI f)), (3, .int (nI t))] []
  obtain ⟨hk0, hk1, hk2, hk3⟩ := hk
  refine hx_iload_n (pc := 0) F dX1_load_0 rfl 1 rfl ?_
  refine hc_X1_badRoot (pc := 1) F rfl (by decide) (ct_X1_badRoot _ G σ r hk0) (Nat.le_of_ble_eq_true rfl) dX1_load_1 ?_
  refine hx_if_ne (pc := 4) (tgt := 14) F (cf_bad_lt _) dX1_load_4 (by decide) (fun h4 => ?_) (fun h4 => ?_)
  · have hb4 : ¬ r < 8 := fun q => h4 (cf_bad_0.mpr q)
    refine hx_iconst (pc := 14) F dX1_load_14 kc_im1 ?_
    exact hx_iret (pc := 15) F E rfl rfl ⟨congrArg nI (by unfold cr_ref; (repeat' split) <;> first | (exfalso; omega) | rfl | contradiction), (by unfold cf_load; (repeat' split) <;> first | (exfalso; omega) | rfl | contradiction)⟩ dX1_load_15
  · have hb4 : r < 8 := cf_bad_0.mp h4
    refine hx_iload_n (pc := 7) F dX1_load_7 rfl 3 rfl ?_
    refine hc_X1_badRoot (pc := 8) F rfl (by decide) (ct_X1_badRoot _ G σ t hk2) (Nat.le_of_ble_eq_true rfl) dX1_load_8 ?_
    refine hx_if_eq (pc := 11) (tgt := 16) F (cf_bad_lt _) dX1_load_11 (by decide) (fun h11 => ?_) (fun h11 => ?_)
    · have hb11 : t < 8 := cf_bad_0.mp h11
      refine hx_iload_n (pc := 16) F dX1_load_16 rfl 2 rfl ?_
      refine hc_X1_badField (pc := 17) F rfl (by decide) (ct_X1_badField _ G σ f hk1) (Nat.le_of_ble_eq_true rfl) dX1_load_17 ?_
      refine hx_if_eq (pc := 20) (tgt := 26) F (cf_badF_lt _) dX1_load_20 (by decide) (fun h20 => ?_) (fun h20 => ?_)
      · have hf20 : f < 3 := cf_badF_0.mp h20
        have hr1 := hk3 r hb4
        refine hx_aload_n (pc := 26) F dX1_load_26 rfl 0 rfl ?_
        refine h1_g1 (pc := 27) F rfl dX1_load_27 ?_
        refine hx_iload_n (pc := 30) F dX1_load_30 rfl 1 rfl ?_
        refine h1_l1 (pc := 31) F (by omega) dX1_load_31 ?_
        refine hx_if_ne (pc := 32) (tgt := 38) F (by omega) dX1_load_32 (by decide) (fun h32 => ?_) (fun h32 => ?_)
        · refine hx_aload_n (pc := 38) F dX1_load_38 rfl 0 rfl ?_
          refine h1_g1 (pc := 39) F rfl dX1_load_39 ?_
          refine hx_iload_n (pc := 42) F dX1_load_42 rfl 3 rfl ?_
          refine hx_aload_n (pc := 43) F dX1_load_43 rfl 0 rfl ?_
          refine h1_g4 (pc := 44) F rfl dX1_load_44 ?_
          refine hx_aload_n (pc := 47) F dX1_load_47 rfl 0 rfl ?_
          refine h1_g1 (pc := 48) F rfl dX1_load_48 ?_
          refine hx_iload_n (pc := 51) F dX1_load_51 rfl 1 rfl ?_
          refine h1_l1 (pc := 52) F (by omega) dX1_load_52 ?_
          refine hx_iconst (pc := 53) F dX1_load_53 kc_i1 ?_
          refine hx_isub (pc := 54) F (by omega) dX1_load_54 ?_
          refine hx_iconst (pc := 55) F dX1_load_55 kc_i3 ?_
          refine hx_imul (pc := 56) F dX1_load_56 ?_
          refine hx_iload_n (pc := 57) F dX1_load_57 rfl 2 rfl ?_
          refine hx_iadd (pc := 58) F dX1_load_58 ?_
          refine h1_l4 (pc := 59) F (by omega) dX1_load_59 ?_
          refine h1_s1 (pc := 60) F (by omega) dX1_load_60 ?_
          refine hx_iconst (pc := 61) F dX1_load_61 kc_i0 ?_
          exact hx_iret (pc := 62) F E rfl rfl ⟨congrArg nI (by unfold cr_ref; (repeat' split) <;> first | (exfalso; omega) | rfl | contradiction), (by unfold cf_load; (repeat' split) <;> first | (exfalso; omega) | rfl | contradiction)⟩ dX1_load_62
        · refine hx_bipush (pc := 35) F dX1_load_35 kc_bm3 ?_
          exact hx_iret (pc := 37) F E rfl rfl ⟨congrArg nI (by unfold cr_ref; (repeat' split) <;> first | (exfalso; omega) | rfl | contradiction), (by unfold cf_load; (repeat' split) <;> first | (exfalso; omega) | rfl | contradiction)⟩ dX1_load_37
      · have hf20 : ¬ f < 3 := fun q => h20 (cf_badF_0.mpr q)
        refine hx_bipush (pc := 23) F dX1_load_23 kc_bm2 ?_
        exact hx_iret (pc := 25) F E rfl rfl ⟨congrArg nI (by unfold cr_ref; (repeat' split) <;> first | (exfalso; omega) | rfl | contradiction), (by unfold cf_load; (repeat' split) <;> first | (exfalso; omega) | rfl | contradiction)⟩ dX1_load_25
    · have hb11 : ¬ t < 8 := fun q => h11 (cf_bad_0.mpr q)
      refine hx_iconst (pc := 14) F dX1_load_14 kc_im1 ?_
      exact hx_iret (pc := 15) F E rfl rfl ⟨congrArg nI (by unfold cr_ref; (repeat' split) <;> first | (exfalso; omega) | rfl | contradiction), (by unfold cf_load; (repeat' split) <;> first | (exfalso; omega) | rfl | contradiction)⟩ dX1_load_15
set_option maxHeartbeats 4000000 in
theorem ct_X1_store (l : Launch) (G : hx_G) (σ : hs_S) (r : Nat) (f : Nat) (t : Nat) (hk : r < 4294967296 ∧ f < 4294967296 ∧ t < 4294967296 ∧ ck_ref σ) : hx_cI l yX1_store mX1_store (V1 G) σ [.ref (hg_h G), .int (nI r), .int (nI f), .int (nI t)] (cr_ref σ r f t) (cf_store σ r f t) := by
  refine hx_enterI (by decide +kernel) rfl (Nat.le_of_ble_eq_true rfl) (fun X E F => ?_)
  show hx_W X mX1_store (V1 G) σ 0 [(0, .ref (hg_h G)), (1, .int (nI r)), (2, .int (nI f)), (3, .int (nI t))] []
  obtain ⟨hk0, hk1, hk2, hk3⟩ := hk
  refine hx_iload_n (pc := 0) F dX1_store_0 rfl 1 rfl ?_
  refine hc_X1_badRoot (pc := 1) F rfl (by decide) (ct_X1_badRoot _ G σ r hk0) (Nat.le_of_ble_eq_true rfl) dX1_store_1 ?_
  refine hx_if_ne (pc := 4) (tgt := 14) F (cf_bad_lt _) dX1_store_4 (by decide) (fun h4 => ?_) (fun h4 => ?_)
  · have hb4 : ¬ r < 8 := fun q => h4 (cf_bad_0.mpr q)
    refine hx_iconst (pc := 14) F dX1_store_14 kc_im1 ?_
    exact hx_iret (pc := 15) F E rfl rfl ⟨congrArg nI (by unfold cr_ref; (repeat' split) <;> first | (exfalso; omega) | rfl | contradiction), (by unfold cf_store; (repeat' split) <;> first | (exfalso; omega) | rfl | contradiction)⟩ dX1_store_15
  · have hb4 : r < 8 := cf_bad_0.mp h4
    refine hx_iload_n (pc := 7) F dX1_store_7 rfl 3 rfl ?_
    refine hc_X1_badRoot (pc := 8) F rfl (by decide) (ct_X1_badRoot _ G σ t hk2) (Nat.le_of_ble_eq_true rfl) dX1_store_8 ?_
    refine hx_if_eq (pc := 11) (tgt := 16) F (cf_bad_lt _) dX1_store_11 (by decide) (fun h11 => ?_) (fun h11 => ?_)
    · have hb11 : t < 8 := cf_bad_0.mp h11
      refine hx_iload_n (pc := 16) F dX1_store_16 rfl 2 rfl ?_
      refine hc_X1_badField (pc := 17) F rfl (by decide) (ct_X1_badField _ G σ f hk1) (Nat.le_of_ble_eq_true rfl) dX1_store_17 ?_
      refine hx_if_eq (pc := 20) (tgt := 26) F (cf_badF_lt _) dX1_store_20 (by decide) (fun h20 => ?_) (fun h20 => ?_)
      · have hf20 : f < 3 := cf_badF_0.mp h20
        have hr1 := hk3 r hb4
        refine hx_aload_n (pc := 26) F dX1_store_26 rfl 0 rfl ?_
        refine h1_g1 (pc := 27) F rfl dX1_store_27 ?_
        refine hx_iload_n (pc := 30) F dX1_store_30 rfl 1 rfl ?_
        refine h1_l1 (pc := 31) F (by omega) dX1_store_31 ?_
        refine hx_if_ne (pc := 32) (tgt := 38) F (by omega) dX1_store_32 (by decide) (fun h32 => ?_) (fun h32 => ?_)
        · refine hx_aload_n (pc := 38) F dX1_store_38 rfl 0 rfl ?_
          refine h1_g1 (pc := 39) F rfl dX1_store_39 ?_
          refine hx_iload_n (pc := 42) F dX1_store_42 rfl 1 rfl ?_
          refine h1_l1 (pc := 43) F (by omega) dX1_store_43 ?_
          refine hx_iconst (pc := 44) F dX1_store_44 kc_i1 ?_
          refine hx_isub (pc := 45) F (by omega) dX1_store_45 ?_
          refine hx_istore (pc := 46) (lv' := [(0, .ref (hg_h G)), (1, .int (nI r)), (2, .int (nI f)), (3, .int (nI t)), (4, .int (nI ((σ 1 r) - 1)))]) F dX1_store_46 (by decide) [1, 2, 3, 4, 0] rfl ?_
          refine hx_aload_n (pc := 48) F dX1_store_48 rfl 0 rfl ?_
          refine h1_g4 (pc := 49) F rfl dX1_store_49 ?_
          refine hx_iload (pc := 52) F dX1_store_52 4 rfl ?_
          refine hx_iconst (pc := 54) F dX1_store_54 kc_i3 ?_
          refine hx_imul (pc := 55) F dX1_store_55 ?_
          refine hx_iload_n (pc := 56) F dX1_store_56 rfl 2 rfl ?_
          refine hx_iadd (pc := 57) F dX1_store_57 ?_
          refine hx_aload_n (pc := 58) F dX1_store_58 rfl 0 rfl ?_
          refine h1_g1 (pc := 59) F rfl dX1_store_59 ?_
          refine hx_iload_n (pc := 62) F dX1_store_62 rfl 3 rfl ?_
          refine h1_l1 (pc := 63) F (by omega) dX1_store_63 ?_
          refine h1_s4 (pc := 64) F (by omega) dX1_store_64 ?_
          refine hx_aload_n (pc := 65) F dX1_store_65 rfl 0 rfl ?_
          refine hx_iload (pc := 66) F dX1_store_66 4 rfl ?_
          refine hx_aload_n (pc := 68) F dX1_store_68 rfl 0 rfl ?_
          refine h1_g1 (pc := 69) F rfl dX1_store_69 ?_
          refine hx_iload_n (pc := 72) F dX1_store_72 rfl 3 rfl ?_
          refine h1_l1 (pc := 73) F (by omega) dX1_store_73 ?_
          refine hx_topN (σ 1 t) rfl ?_
          refine hc_X1_remember (pc := 74) F rfl (by decide) (ct_X1_remember _ G (hs_st σ 4 ((((σ 1 r) - 1) * 3) + f) (σ 1 t)) ((σ 1 r) - 1) (σ 1 t) ⟨by omega, hk3 t hb11⟩) (Nat.le_of_ble_eq_true rfl) dX1_store_74 ?_
          refine hx_iconst (pc := 77) F dX1_store_77 kc_i0 ?_
          exact hx_iret (pc := 78) F E rfl rfl ⟨congrArg nI (by unfold cr_ref; (repeat' split) <;> first | (exfalso; omega) | rfl | contradiction), (by unfold cf_store; (repeat' split) <;> first | (exfalso; omega) | rfl | contradiction)⟩ dX1_store_78
        · refine hx_bipush (pc := 35) F dX1_store_35 kc_bm3 ?_
          exact hx_iret (pc := 37) F E rfl rfl ⟨congrArg nI (by unfold cr_ref; (repeat' split) <;> first | (exfalso; omega) | rfl | contradiction), (by unfold cf_store; (repeat' split) <;> first | (exfalso; omega) | rfl | contradiction)⟩ dX1_store_37
      · have hf20 : ¬ f < 3 := fun q => h20 (cf_badF_0.mpr q)
        refine hx_bipush (pc := 23) F dX1_store_23 kc_bm2 ?_
        exact hx_iret (pc := 25) F E rfl rfl ⟨congrArg nI (by unfold cr_ref; (repeat' split) <;> first | (exfalso; omega) | rfl | contradiction), (by unfold cf_store; (repeat' split) <;> first | (exfalso; omega) | rfl | contradiction)⟩ dX1_store_25
    · have hb11 : ¬ t < 8 := fun q => h11 (cf_bad_0.mpr q)
      refine hx_iconst (pc := 14) F dX1_store_14 kc_im1 ?_
      exact hx_iret (pc := 15) F E rfl rfl ⟨congrArg nI (by unfold cr_ref; (repeat' split) <;> first | (exfalso; omega) | rfl | contradiction), (by unfold cf_store; (repeat' split) <;> first | (exfalso; omega) | rfl | contradiction)⟩ dX1_store_15
set_option maxHeartbeats 4000000 in
theorem ct_X1_setPayload (l : Launch) (G : hx_G) (σ : hs_S) (r : Nat) (v : Nat) (hk : r < 4294967296 ∧ ck_ref σ) : hx_cI l yX1_setPayload mX1_setPayload (V1 G) σ [.ref (hg_h G), .int (nI r), .int (nI v)] (cr_setp σ r) (cf_setp σ r v) := by
  refine hx_enterI (by decide +kernel) rfl (Nat.le_of_ble_eq_true rfl) (fun X E F => ?_)
  show hx_W X mX1_setPayload (V1 G) σ 0 [(0, .ref (hg_h G)), (1, .int (nI r)), (2, .int (nI v))] []
  obtain ⟨hk0, hk3⟩ := hk
  refine hx_iload_n (pc := 0) F dX1_setPayload_0 rfl 1 rfl ?_
  refine hc_X1_badRoot (pc := 1) F rfl (by decide) (ct_X1_badRoot _ G σ r hk0) (Nat.le_of_ble_eq_true rfl) dX1_setPayload_1 ?_
  refine hx_if_eq (pc := 4) (tgt := 9) F (cf_bad_lt _) dX1_setPayload_4 (by decide) (fun h4 => ?_) (fun h4 => ?_)
  · have hb4 : r < 8 := cf_bad_0.mp h4
    have hr1 := hk3 r hb4
    refine hx_aload_n (pc := 9) F dX1_setPayload_9 rfl 0 rfl ?_
    refine h1_g1 (pc := 10) F rfl dX1_setPayload_10 ?_
    refine hx_iload_n (pc := 13) F dX1_setPayload_13 rfl 1 rfl ?_
    refine h1_l1 (pc := 14) F (by omega) dX1_setPayload_14 ?_
    refine hx_if_ne (pc := 15) (tgt := 21) F (by omega) dX1_setPayload_15 (by decide) (fun h15 => ?_) (fun h15 => ?_)
    · refine hx_aload_n (pc := 21) F dX1_setPayload_21 rfl 0 rfl ?_
      refine h1_g3 (pc := 22) F rfl dX1_setPayload_22 ?_
      refine hx_aload_n (pc := 25) F dX1_setPayload_25 rfl 0 rfl ?_
      refine h1_g1 (pc := 26) F rfl dX1_setPayload_26 ?_
      refine hx_iload_n (pc := 29) F dX1_setPayload_29 rfl 1 rfl ?_
      refine h1_l1 (pc := 30) F (by omega) dX1_setPayload_30 ?_
      refine hx_iconst (pc := 31) F dX1_setPayload_31 kc_i1 ?_
      refine hx_isub (pc := 32) F (by omega) dX1_setPayload_32 ?_
      refine hx_iload_n (pc := 33) F dX1_setPayload_33 rfl 2 rfl ?_
      refine h1_s3 (pc := 34) F (by omega) dX1_setPayload_34 ?_
      refine hx_iconst (pc := 35) F dX1_setPayload_35 kc_i0 ?_
      exact hx_iret (pc := 36) F E rfl rfl ⟨congrArg nI (by unfold cr_setp; (repeat' split) <;> first | (exfalso; omega) | rfl | contradiction), (by unfold cf_setp; (repeat' split) <;> first | (exfalso; omega) | rfl | contradiction)⟩ dX1_setPayload_36
    · refine hx_bipush (pc := 18) F dX1_setPayload_18 kc_bm3 ?_
      exact hx_iret (pc := 20) F E rfl rfl ⟨congrArg nI (by unfold cr_setp; (repeat' split) <;> first | (exfalso; omega) | rfl | contradiction), (by unfold cf_setp; (repeat' split) <;> first | (exfalso; omega) | rfl | contradiction)⟩ dX1_setPayload_20
  · have hb4 : ¬ r < 8 := fun q => h4 (cf_bad_0.mpr q)
    refine hx_iconst (pc := 7) F dX1_setPayload_7 kc_im1 ?_
    exact hx_iret (pc := 8) F E rfl rfl ⟨congrArg nI (by unfold cr_setp; (repeat' split) <;> first | (exfalso; omega) | rfl | contradiction), (by unfold cf_setp; (repeat' split) <;> first | (exfalso; omega) | rfl | contradiction)⟩ dX1_setPayload_8
set_option maxHeartbeats 4000000 in
theorem ct_X1_collect (l : Launch) (G : hx_G) (σ : hs_S) (hk : σ 0 0 ≤ 8 ∧ ck_co (σ 0 0) (σ 0 0) σ) : hx_cV l yX1_collect mX1_collect (V1 G) σ [.ref (hg_h G)] (cf_co (σ 0 0) σ) := by
  refine hx_enterV (by decide +kernel) rfl (Nat.le_of_ble_eq_true rfl) (fun X E F => ?_)
  show hx_W X mX1_collect (V1 G) σ 0 [(0, .ref (hg_h G))] []
  obtain ⟨hk1, hk2⟩ := hk
  refine hx_iconst (pc := 0) F dX1_collect_0 kc_i0 ?_
  refine hx_istore_n (pc := 1) (lv' := [(0, .ref (hg_h G)), (1, .int (nI 0))]) F dX1_collect_1 rfl (by decide) [1, 0] rfl ?_
  have L2 : ∀ (n2 : Nat) (i : Nat) (τ : hs_S), i + n2 = σ 0 0 → cf_co n2 τ = cf_co (σ 0 0) σ → ck_co (σ 0 0) n2 τ → hx_W X mX1_collect (V1 G) τ 2 [(0, .ref (hg_h G)), (1, .int (nI i))] [] := by
    intro n2
    induction n2 with
    | zero =>
      intro i τ hi2 hf2 hc2
      have hf2 : τ = cf_co (σ 0 0) σ := hf2
      have hc2 : τ 0 0 = σ 0 0 := hc2
      refine hx_iload_n (pc := 2) F dX1_collect_2 rfl 1 rfl ?_
      refine hx_aload_n (pc := 3) F dX1_collect_3 rfl 0 rfl ?_
      refine h1_g0 (pc := 4) F rfl dX1_collect_4 ?_
      refine hx_icmp_ge (pc := 7) (tgt := 20) F (by omega) (by omega) dX1_collect_7 (by decide) (fun h7 => ?_) (fun h7 => absurd h7 (by omega))
      exact hx_vret (pc := 20) F E rfl hf2 dX1_collect_20
    | succ n2 ih2 =>
      intro i τ hi2 hf2 hc2
      have hf2 : cf_co n2 (cf_mw τ) = cf_co (σ 0 0) σ := hf2
      obtain ⟨hc3, hc4, hc5⟩ := hc2
      refine hx_iload_n (pc := 2) F dX1_collect_2 rfl 1 rfl ?_
      refine hx_aload_n (pc := 3) F dX1_collect_3 rfl 0 rfl ?_
      refine h1_g0 (pc := 4) F rfl dX1_collect_4 ?_
      refine hx_icmp_ge (pc := 7) (tgt := 20) F (by omega) (by omega) dX1_collect_7 (by decide) (fun h7 => absurd h7 (by omega)) (fun h7 => ?_)
      refine hx_aload_n (pc := 10) F dX1_collect_10 rfl 0 rfl ?_
      refine hc_X1_moveWindow (pc := 11) F rfl (by decide) (ct_X1_moveWindow _ G τ  hc4) (Nat.le_of_ble_eq_true rfl) dX1_collect_11 ?_
      refine hx_iinc (pc := 14) (lv' := [(0, .ref (hg_h G)), (1, .int (nI (i + 1)))]) F dX1_collect_14 1 rfl (hx_inc1 _) (by decide) [1, 0] rfl ?_
      refine hx_goto (pc := 17) (tgt := 2) F dX1_collect_17 (by decide) ?_
      exact ih2 (i + 1) _ (by omega) hf2 hc5
  exact L2 (σ 0 0) 0 σ (by omega) rfl hk2
end
section
set_option maxRecDepth 100000
set_option maxHeartbeats 4000000 in
theorem ct_X1_empty (l : Launch) (G : hx_G) (σ : hs_S) (r : Nat) (hk : r < 4294967296 ∧ ck_ref σ) : hx_cI l yX1_empty mX1_empty (V1 G) σ [.ref (hg_h G), .int (nI r)] (cf_emp σ r) (σ) := by
  refine hx_enterI (by decide +kernel) rfl (Nat.le_of_ble_eq_true rfl) (fun X E F => ?_)
  show hx_W X mX1_empty (V1 G) σ 0 [(0, .ref (hg_h G)), (1, .int (nI r))] []
  obtain ⟨hk0, hk3⟩ := hk
  refine hx_iload_n (pc := 0) F dX1_empty_0 rfl 1 rfl ?_
  refine hc_X1_badRoot (pc := 1) F rfl (by decide) (ct_X1_badRoot _ G σ r hk0) (Nat.le_of_ble_eq_true rfl) dX1_empty_1 ?_
  refine hx_if_ne (pc := 4) (tgt := 16) F (cf_bad_lt _) dX1_empty_4 (by decide) (fun h4 => ?_) (fun h4 => ?_)
  · have hb4 : ¬ r < 8 := fun q => h4 (cf_bad_0.mpr q)
    refine hx_iconst (pc := 16) F dX1_empty_16 kc_i1 ?_
    refine hx_goto (pc := 17) (tgt := 21) F dX1_empty_17 (by decide) ?_
    exact hx_iret (pc := 21) F E rfl (by decide +kernel) ⟨congrArg nI (by unfold cf_emp; (repeat' split) <;> first | (exfalso; omega) | rfl | contradiction), rfl⟩ dX1_empty_21
  · have hb4 : r < 8 := cf_bad_0.mp h4
    have hr1 := hk3 r hb4
    refine hx_aload_n (pc := 7) F dX1_empty_7 rfl 0 rfl ?_
    refine h1_g1 (pc := 8) F rfl dX1_empty_8 ?_
    refine hx_iload_n (pc := 11) F dX1_empty_11 rfl 1 rfl ?_
    refine h1_l1 (pc := 12) F (by omega) dX1_empty_12 ?_
    refine hx_if_ne (pc := 13) (tgt := 20) F (by omega) dX1_empty_13 (by decide) (fun h13 => ?_) (fun h13 => ?_)
    · refine hx_iconst (pc := 20) F dX1_empty_20 kc_i0 ?_
      exact hx_iret (pc := 21) F E rfl (by decide +kernel) ⟨congrArg nI (by unfold cf_emp; (repeat' split) <;> first | (exfalso; omega) | rfl | contradiction), rfl⟩ dX1_empty_21
    · refine hx_iconst (pc := 16) F dX1_empty_16 kc_i1 ?_
      refine hx_goto (pc := 17) (tgt := 21) F dX1_empty_17 (by decide) ?_
      exact hx_iret (pc := 21) F E rfl (by decide +kernel) ⟨congrArg nI (by unfold cf_emp; (repeat' split) <;> first | (exfalso; omega) | rfl | contradiction), rfl⟩ dX1_empty_21
set_option maxHeartbeats 4000000 in
theorem ct_X1_payload (l : Launch) (G : hx_G) (σ : hs_S) (r : Nat) (hk : r < 4294967296 ∧ ck_ref σ) : hx_cI l yX1_payload mX1_payload (V1 G) σ [.ref (hg_h G), .int (nI r)] (cr_pay σ r) (σ) := by
  refine hx_enterI (by decide +kernel) rfl (Nat.le_of_ble_eq_true rfl) (fun X E F => ?_)
  show hx_W X mX1_payload (V1 G) σ 0 [(0, .ref (hg_h G)), (1, .int (nI r))] []
  obtain ⟨hk0, hk3⟩ := hk
  refine hx_aload_n (pc := 0) F dX1_payload_0 rfl 0 rfl ?_
  refine hx_iload_n (pc := 1) F dX1_payload_1 rfl 1 rfl ?_
  refine hc_X1_empty (pc := 2) F rfl (by decide) (ct_X1_empty _ G σ r ⟨hk0, hk3⟩) (Nat.le_of_ble_eq_true rfl) dX1_payload_2 ?_
  refine hx_if_eq (pc := 5) (tgt := 12) F (cf_emp_lt _ _) dX1_payload_5 (by decide) (fun h5 => ?_) (fun h5 => ?_)
  · obtain ⟨hr0, hr2⟩ := cf_emp_0 h5
    have hr1 := hk3 r hr0
    refine hx_aload_n (pc := 12) F dX1_payload_12 rfl 0 rfl ?_
    refine h1_g3 (pc := 13) F rfl dX1_payload_13 ?_
    refine hx_aload_n (pc := 16) F dX1_payload_16 rfl 0 rfl ?_
    refine h1_g1 (pc := 17) F rfl dX1_payload_17 ?_
    refine hx_iload_n (pc := 20) F dX1_payload_20 rfl 1 rfl ?_
    refine h1_l1 (pc := 21) F (by omega) dX1_payload_21 ?_
    refine hx_iconst (pc := 22) F dX1_payload_22 kc_i1 ?_
    refine hx_isub (pc := 23) F (by omega) dX1_payload_23 ?_
    refine h1_l3 (pc := 24) F (by omega) dX1_payload_24 ?_
    exact hx_iret (pc := 25) F E rfl rfl ⟨congrArg nI (by unfold cr_pay; (repeat' split) <;> first | (exfalso; omega) | rfl | contradiction), rfl⟩ dX1_payload_25
  · refine hx_iconst (pc := 8) F dX1_payload_8 kc_i0 ?_
    refine hx_goto (pc := 9) (tgt := 25) F dX1_payload_9 (by decide) ?_
    exact hx_iret (pc := 25) F E rfl rfl ⟨congrArg nI (by unfold cr_pay; (repeat' split) <;> first | (exfalso; omega) | rfl | contradiction), rfl⟩ dX1_payload_25
set_option maxHeartbeats 4000000 in
theorem ct_X1_held (l : Launch) (G : hx_G) (σ : hs_S) (r : Nat) (hk : r < 4294967296 ∧ ck_ref σ) : hx_cI l yX1_held mX1_held (V1 G) σ [.ref (hg_h G), .int (nI r)] (cr_held σ r) (σ) := by
  refine hx_enterI (by decide +kernel) rfl (Nat.le_of_ble_eq_true rfl) (fun X E F => ?_)
  show hx_W X mX1_held (V1 G) σ 0 [(0, .ref (hg_h G)), (1, .int (nI r))] []
  obtain ⟨hk0, hk3⟩ := hk
  refine hx_aload_n (pc := 0) F dX1_held_0 rfl 0 rfl ?_
  refine hx_iload_n (pc := 1) F dX1_held_1 rfl 1 rfl ?_
  refine hc_X1_empty (pc := 2) F rfl (by decide) (ct_X1_empty _ G σ r ⟨hk0, hk3⟩) (Nat.le_of_ble_eq_true rfl) dX1_held_2 ?_
  refine hx_if_ne (pc := 5) (tgt := 12) F (cf_emp_lt _ _) dX1_held_5 (by decide) (fun h5 => ?_) (fun h5 => ?_)
  · refine hx_iconst (pc := 12) F dX1_held_12 kc_i0 ?_
    exact hx_iret (pc := 13) F E rfl (by decide +kernel) ⟨congrArg nI (by unfold cr_held; (repeat' split) <;> first | (exfalso; omega) | rfl | contradiction), rfl⟩ dX1_held_13
  · refine hx_iconst (pc := 8) F dX1_held_8 kc_i1 ?_
    refine hx_goto (pc := 9) (tgt := 13) F dX1_held_9 (by decide) ?_
    exact hx_iret (pc := 13) F E rfl (by decide +kernel) ⟨congrArg nI (by unfold cr_held; (repeat' split) <;> first | (exfalso; omega) | rfl | contradiction), rfl⟩ dX1_held_13
set_option maxHeartbeats 4000000 in
theorem ct_X1_same (l : Launch) (G : hx_G) (σ : hs_S) (a : Nat) (b : Nat) (hk : a < 4294967296 ∧ b < 4294967296 ∧ ck_ref σ) : hx_cI l yX1_same mX1_same (V1 G) σ [.ref (hg_h G), .int (nI a), .int (nI b)] (cr_same σ a b) (σ) := by
  refine hx_enterI (by decide +kernel) rfl (Nat.le_of_ble_eq_true rfl) (fun X E F => ?_)
  show hx_W X mX1_same (V1 G) σ 0 [(0, .ref (hg_h G)), (1, .int (nI a)), (2, .int (nI b))] []
  obtain ⟨hk0, hk1, hk3⟩ := hk
  refine hx_aload_n (pc := 0) F dX1_same_0 rfl 0 rfl ?_
  refine hx_iload_n (pc := 1) F dX1_same_1 rfl 1 rfl ?_
  refine hc_X1_empty (pc := 2) F rfl (by decide) (ct_X1_empty _ G σ a ⟨hk0, hk3⟩) (Nat.le_of_ble_eq_true rfl) dX1_same_2 ?_
  refine hx_if_ne (pc := 5) (tgt := 16) F (cf_emp_lt _ _) dX1_same_5 (by decide) (fun h5 => ?_) (fun h5 => ?_)
  · refine hx_iconst (pc := 16) F dX1_same_16 kc_i0 ?_
    exact hx_iret (pc := 17) F E rfl (by decide +kernel) ⟨congrArg nI (by unfold cr_same; (repeat' split) <;> first | (exfalso; omega) | rfl | contradiction), rfl⟩ dX1_same_17
  · refine hx_aload_n (pc := 8) F dX1_same_8 rfl 0 rfl ?_
    refine hx_iload_n (pc := 9) F dX1_same_9 rfl 2 rfl ?_
    refine hc_X1_empty (pc := 10) F rfl (by decide) (ct_X1_empty _ G σ b ⟨hk1, hk3⟩) (Nat.le_of_ble_eq_true rfl) dX1_same_10 ?_
    refine hx_if_eq (pc := 13) (tgt := 18) F (cf_emp_lt _ _) dX1_same_13 (by decide) (fun h13 => ?_) (fun h13 => ?_)
    · have ha1 := hk3 a (cf_emp_0 h5).1
      have hb1 := hk3 b (cf_emp_0 h13).1
      have ha2 := (cf_emp_0 h5).1
      have hb2 := (cf_emp_0 h13).1
      refine hx_aload_n (pc := 18) F dX1_same_18 rfl 0 rfl ?_
      refine h1_g1 (pc := 19) F rfl dX1_same_19 ?_
      refine hx_iload_n (pc := 22) F dX1_same_22 rfl 1 rfl ?_
      refine h1_l1 (pc := 23) F (by omega) dX1_same_23 ?_
      refine hx_aload_n (pc := 24) F dX1_same_24 rfl 0 rfl ?_
      refine h1_g1 (pc := 25) F rfl dX1_same_25 ?_
      refine hx_iload_n (pc := 28) F dX1_same_28 rfl 2 rfl ?_
      refine h1_l1 (pc := 29) F (by omega) dX1_same_29 ?_
      refine hx_icmp_ne (pc := 30) (tgt := 37) F (by omega) (by omega) dX1_same_30 (by decide) (fun h30 => ?_) (fun h30 => ?_)
      · refine hx_iconst (pc := 37) F dX1_same_37 kc_i0 ?_
        exact hx_iret (pc := 38) F E rfl (by decide +kernel) ⟨congrArg nI (by unfold cr_same; (repeat' split) <;> first | (exfalso; omega) | rfl | contradiction), rfl⟩ dX1_same_38
      · refine hx_iconst (pc := 33) F dX1_same_33 kc_i1 ?_
        refine hx_goto (pc := 34) (tgt := 38) F dX1_same_34 (by decide) ?_
        exact hx_iret (pc := 38) F E rfl (by decide +kernel) ⟨congrArg nI (by unfold cr_same; (repeat' split) <;> first | (exfalso; omega) | rfl | contradiction), rfl⟩ dX1_same_38
    · refine hx_iconst (pc := 16) F dX1_same_16 kc_i0 ?_
      exact hx_iret (pc := 17) F E rfl (by decide +kernel) ⟨congrArg nI (by unfold cr_same; (repeat' split) <;> first | (exfalso; omega) | rfl | contradiction), rfl⟩ dX1_same_17
set_option maxHeartbeats 4000000 in
theorem ct_X1_reachable (l : Launch) (G : hx_G) (σ : hs_S) (hk : ck_walk σ) : hx_cI l yX1_reachable mX1_reachable (V1 G) σ [.ref (hg_h G)] (cf_walk σ 15 0) (cf_walk σ) := by
  refine hx_enterI (by decide +kernel) rfl (Nat.le_of_ble_eq_true rfl) (fun X E F => ?_)
  show hx_W X mX1_reachable (V1 G) σ 0 [(0, .ref (hg_h G))] []
  refine hx_aload_n (pc := 0) F dX1_reachable_0 rfl 0 rfl ?_
  refine hc_X1_walkFromRoots (pc := 1) F rfl (by decide) (ct_X1_walkFromRoots _ G σ  hk) (Nat.le_of_ble_eq_true rfl) dX1_reachable_1 ?_
  refine hx_aload_n (pc := 4) F dX1_reachable_4 rfl 0 rfl ?_
  refine h1_g15 (pc := 5) F rfl dX1_reachable_5 ?_
  exact hx_iret (pc := 8) F E rfl rfl ⟨rfl, rfl⟩ dX1_reachable_8
set_option maxHeartbeats 4000000 in
theorem ct_X1_reachableFrom (l : Launch) (G : hx_G) (σ : hs_S) (r : Nat) (hk : r < 4294967296 ∧ ck_ref σ ∧ (cf_emp σ r = 0 → ck_from σ r)) : hx_cI l yX1_reachableFrom mX1_reachableFrom (V1 G) σ [.ref (hg_h G), .int (nI r)] (cr_rf σ r) (cf_rf σ r) := by
  refine hx_enterI (by decide +kernel) rfl (Nat.le_of_ble_eq_true rfl) (fun X E F => ?_)
  show hx_W X mX1_reachableFrom (V1 G) σ 0 [(0, .ref (hg_h G)), (1, .int (nI r))] []
  obtain ⟨hk0, hk3, hk4⟩ := hk
  refine hx_aload_n (pc := 0) F dX1_reachableFrom_0 rfl 0 rfl ?_
  refine hx_iload_n (pc := 1) F dX1_reachableFrom_1 rfl 1 rfl ?_
  refine hc_X1_empty (pc := 2) F rfl (by decide) (ct_X1_empty _ G σ r ⟨hk0, hk3⟩) (Nat.le_of_ble_eq_true rfl) dX1_reachableFrom_2 ?_
  refine hx_if_eq (pc := 5) (tgt := 10) F (cf_emp_lt _ _) dX1_reachableFrom_5 (by decide) (fun h5 => ?_) (fun h5 => ?_)
  · obtain ⟨hk5, hk6⟩ := hk4 h5
    have hr0 := (cf_emp_0 h5).1
    refine hx_aload_n (pc := 10) F dX1_reachableFrom_10 rfl 0 rfl ?_
    refine hc_X1_startWalk (pc := 11) F rfl (by decide) (ct_X1_startWalk _ G σ  trivial) (Nat.le_of_ble_eq_true rfl) dX1_reachableFrom_11 ?_
    refine hx_aload_n (pc := 14) F dX1_reachableFrom_14 rfl 0 rfl ?_
    refine hx_aload_n (pc := 15) F dX1_reachableFrom_15 rfl 0 rfl ?_
    refine h1_g1 (pc := 16) F rfl dX1_reachableFrom_16 ?_
    refine hx_iload_n (pc := 19) F dX1_reachableFrom_19 rfl 1 rfl ?_
    refine h1_l1 (pc := 20) F (by omega) dX1_reachableFrom_20 ?_
    refine hx_iconst (pc := 21) F dX1_reachableFrom_21 kc_i0 ?_
    refine hc_X1_visit (pc := 22) F rfl (by decide) (ct_X1_visit _ G (cf_start σ) ((cf_start σ) 1 r) 0 hk5) (Nat.le_of_ble_eq_true rfl) dX1_reachableFrom_22 ?_
    refine hx_aload_n (pc := 25) F dX1_reachableFrom_25 rfl 0 rfl ?_
    refine hc_X1_finishWalk (pc := 26) F rfl (by decide) (ct_X1_finishWalk _ G (cf_visit (cf_start σ) ((cf_start σ) 1 r) 0)  hk6) (Nat.le_of_ble_eq_true rfl) dX1_reachableFrom_26 ?_
    refine hx_as (σ' := (cf_from σ r)) rfl rfl rfl rfl ?_
    refine hx_aload_n (pc := 29) F dX1_reachableFrom_29 rfl 0 rfl ?_
    refine h1_g15 (pc := 30) F rfl dX1_reachableFrom_30 ?_
    exact hx_iret (pc := 33) F E rfl rfl ⟨congrArg nI (by unfold cr_rf; (repeat' split) <;> first | (exfalso; omega) | rfl | contradiction), (by unfold cf_rf; (repeat' split) <;> first | (exfalso; omega) | rfl | contradiction)⟩ dX1_reachableFrom_33
  · refine hx_iconst (pc := 8) F dX1_reachableFrom_8 kc_i0 ?_
    exact hx_iret (pc := 9) F E rfl rfl ⟨congrArg nI (by unfold cr_rf; (repeat' split) <;> first | (exfalso; omega) | rfl | contradiction), (by unfold cf_rf; (repeat' split) <;> first | (exfalso; omega) | rfl | contradiction)⟩ dX1_reachableFrom_9
set_option maxHeartbeats 4000000 in
theorem ct_X1_distance (l : Launch) (G : hx_G) (σ : hs_S) (a : Nat) (b : Nat) (hk : a < 4294967296 ∧ b < 4294967296 ∧ ck_ref σ ∧ ck_dist σ a b) : hx_cI l yX1_distance mX1_distance (V1 G) σ [.ref (hg_h G), .int (nI a), .int (nI b)] (cr_dist σ a b) (cf_dist σ a b) := by
  refine hx_enterI (by decide +kernel) rfl (Nat.le_of_ble_eq_true rfl) (fun X E F => ?_)
  show hx_W X mX1_distance (V1 G) σ 0 [(0, .ref (hg_h G)), (1, .int (nI a)), (2, .int (nI b))] []
  obtain ⟨hk0, hk1, hk3, hk4⟩ := hk
  refine hx_aload_n (pc := 0) F dX1_distance_0 rfl 0 rfl ?_
  refine hx_iload_n (pc := 1) F dX1_distance_1 rfl 1 rfl ?_
  refine hc_X1_empty (pc := 2) F rfl (by decide) (ct_X1_empty _ G σ a ⟨hk0, hk3⟩) (Nat.le_of_ble_eq_true rfl) dX1_distance_2 ?_
  refine hx_if_ne (pc := 5) (tgt := 16) F (cf_emp_lt _ _) dX1_distance_5 (by decide) (fun h5 => ?_) (fun h5 => ?_)
  · refine hx_bipush (pc := 16) F dX1_distance_16 kc_bm3 ?_
    exact hx_iret (pc := 18) F E rfl rfl ⟨congrArg nI (by unfold cr_dist; (repeat' split) <;> first | (exfalso; omega) | rfl | contradiction), (by unfold cf_dist; (repeat' split) <;> first | (exfalso; omega) | rfl | contradiction)⟩ dX1_distance_18
  · refine hx_aload_n (pc := 8) F dX1_distance_8 rfl 0 rfl ?_
    refine hx_iload_n (pc := 9) F dX1_distance_9 rfl 2 rfl ?_
    refine hc_X1_empty (pc := 10) F rfl (by decide) (ct_X1_empty _ G σ b ⟨hk1, hk3⟩) (Nat.le_of_ble_eq_true rfl) dX1_distance_10 ?_
    refine hx_if_eq (pc := 13) (tgt := 19) F (cf_emp_lt _ _) dX1_distance_13 (by decide) (fun h13 => ?_) (fun h13 => ?_)
    · have ha0 := (cf_emp_0 h5).1
      have hb0 := (cf_emp_0 h13).1
      refine hx_aload_n (pc := 19) F dX1_distance_19 rfl 0 rfl ?_
      refine hc_X1_startWalk (pc := 20) F rfl (by decide) (ct_X1_startWalk _ G σ  trivial) (Nat.le_of_ble_eq_true rfl) dX1_distance_20 ?_
      refine hx_aload_n (pc := 23) F dX1_distance_23 rfl 0 rfl ?_
      refine hx_aload_n (pc := 24) F dX1_distance_24 rfl 0 rfl ?_
      refine h1_g1 (pc := 25) F rfl dX1_distance_25 ?_
      refine hx_iload_n (pc := 28) F dX1_distance_28 rfl 1 rfl ?_
      refine h1_l1 (pc := 29) F (by omega) dX1_distance_29 ?_
      refine hx_iconst (pc := 30) F dX1_distance_30 kc_i0 ?_
      refine hc_X1_visit (pc := 31) F rfl (by decide) (ct_X1_visit _ G (cf_start σ) ((cf_start σ) 1 a) 0 (hk4 h5 h13).1.1) (Nat.le_of_ble_eq_true rfl) dX1_distance_31 ?_
      refine hx_aload_n (pc := 34) F dX1_distance_34 rfl 0 rfl ?_
      refine hc_X1_finishWalk (pc := 35) F rfl (by decide) (ct_X1_finishWalk _ G (cf_visit (cf_start σ) ((cf_start σ) 1 a) 0)  (hk4 h5 h13).1.2) (Nat.le_of_ble_eq_true rfl) dX1_distance_35 ?_
      refine hx_gen (fun ω hω => ?_)
      have hw : ω = cf_from σ a := hω
      have hq1 : 1 ≤ ω 1 b ∧ ω 1 b ≤ 64 ∧ ω 13 (ω 1 b - 1) < 4294967296 := by rw [hw]; exact (hk4 h5 h13).2
      obtain ⟨hq1, hq2, hq3⟩ := hq1
      refine hx_aload_n (pc := 38) F dX1_distance_38 rfl 0 rfl ?_
      refine h1_g13 (pc := 39) F rfl dX1_distance_39 ?_
      refine hx_aload_n (pc := 42) F dX1_distance_42 rfl 0 rfl ?_
      refine h1_g1 (pc := 43) F rfl dX1_distance_43 ?_
      refine hx_iload_n (pc := 46) F dX1_distance_46 rfl 2 rfl ?_
      refine h1_l1 (pc := 47) F (by omega) dX1_distance_47 ?_
      refine hx_iconst (pc := 48) F dX1_distance_48 kc_i1 ?_
      refine hx_isub (pc := 49) F (by omega) dX1_distance_49 ?_
      refine h1_l13 (pc := 50) F (by omega) dX1_distance_50 ?_
      refine hx_istore_n (pc := 51) (lv' := [(0, .ref (hg_h G)), (1, .int (nI a)), (2, .int (nI b)), (3, .int (nI (ω 13 ((ω 1 b) - 1))))]) F dX1_distance_51 rfl (by decide) [1, 2, 3, 0] rfl ?_
      refine hx_iload_n (pc := 52) F dX1_distance_52 rfl 3 rfl ?_
      refine hx_if_ge (pc := 53) (tgt := 61) F (by omega) dX1_distance_53 (by decide) (fun h53 => ?_) (fun h53 => ?_)
      · refine hx_iload_n (pc := 61) F dX1_distance_61 rfl 3 rfl ?_
        exact hx_iret (pc := 62) F E rfl rfl ⟨congrArg nI (by unfold cr_dist cf_dv; rw [if_pos h5, if_pos h13, ← hw, if_pos h53]), by unfold cf_dist; rw [if_pos h5, if_pos h13, hw]⟩ dX1_distance_62
      · refine hx_bipush (pc := 56) F dX1_distance_56 kc_bm3 ?_
        refine hx_goto (pc := 58) (tgt := 62) F dX1_distance_58 (by decide) ?_
        exact hx_iret (pc := 62) F E rfl rfl ⟨congrArg nI (by unfold cr_dist cf_dv; rw [if_pos h5, if_pos h13, ← hw, if_neg (by omega)]), by unfold cf_dist; rw [if_pos h5, if_pos h13, hw]⟩ dX1_distance_62
    · refine hx_bipush (pc := 16) F dX1_distance_16 kc_bm3 ?_
      exact hx_iret (pc := 18) F E rfl rfl ⟨congrArg nI (by unfold cr_dist; (repeat' split) <;> first | (exfalso; omega) | rfl | contradiction), (by unfold cf_dist; (repeat' split) <;> first | (exfalso; omega) | rfl | contradiction)⟩ dX1_distance_18
set_option maxHeartbeats 4000000 in
theorem ct_X1_sum (l : Launch) (G : hx_G) (σ : hs_S) (hk : ck_sum σ) : hx_cI l yX1_sum mX1_sum (V1 G) σ [.ref (hg_h G)] (cr_sum σ) (cf_walk σ) := by
  refine hx_enterI (by decide +kernel) rfl (Nat.le_of_ble_eq_true rfl) (fun X E F => ?_)
  show hx_W X mX1_sum (V1 G) σ 0 [(0, .ref (hg_h G))] []
  refine hx_aload_n (pc := 0) F dX1_sum_0 rfl 0 rfl ?_
  refine hc_X1_walkFromRoots (pc := 1) F rfl (by decide) (ct_X1_walkFromRoots _ G σ  hk.1) (Nat.le_of_ble_eq_true rfl) dX1_sum_1 ?_
  refine hx_gen (fun ω hω => ?_)
  have hq1 : ω 15 0 ≤ 64 := by rw [hω]; exact hk.2.1
  have hk3 : ∀ i, i < ω 15 0 → ω 14 i < 64 := by rw [hω]; exact hk.2.2
  refine hx_iconst (pc := 4) F dX1_sum_4 kc_i0 ?_
  refine hx_istore_n (pc := 5) (lv' := [(0, .ref (hg_h G)), (1, .int (nI 0))]) F dX1_sum_5 rfl (by decide) [1, 0] rfl ?_
  refine hx_iconst (pc := 6) F dX1_sum_6 kc_i0 ?_
  refine hx_istore_n (pc := 7) (lv' := [(0, .ref (hg_h G)), (1, .int (nI 0)), (2, .int (nI 0))]) F dX1_sum_7 rfl (by decide) [1, 2, 0] rfl ?_
  have L8 : ∀ (n8 : Nat) (i : Nat) (a : Nat), i + n8 = ω 15 0 → it_f (cf_su ω) n8 i a = cr_sum σ → hx_W X mX1_sum (V1 G) ω 8 [(0, .ref (hg_h G)), (1, .int (nI a)), (2, .int (nI i))] [] := by
    intro n8
    induction n8 with
    | zero =>
      intro i a hi8 hf8
      have hf8 : a = cr_sum σ := hf8
      refine hx_iload_n (pc := 8) F dX1_sum_8 rfl 2 rfl ?_
      refine hx_aload_n (pc := 9) F dX1_sum_9 rfl 0 rfl ?_
      refine h1_g15 (pc := 10) F rfl dX1_sum_10 ?_
      refine hx_icmp_ge (pc := 13) (tgt := 36) F (by omega) (by omega) dX1_sum_13 (by decide) (fun h13 => ?_) (fun h13 => absurd h13 (by omega))
      refine hx_iload_n (pc := 36) F dX1_sum_36 rfl 1 rfl ?_
      exact hx_iret (pc := 37) F E rfl rfl ⟨congrArg nI hf8, hω⟩ dX1_sum_37
    | succ n8 ih8 =>
      intro i a hi8 hf8
      have hf8 : it_f (cf_su ω) n8 (i + 1) (a + ω 3 (ω 14 i)) = cr_sum σ := hf8
      have hq := hk3 i (by omega)
      refine hx_iload_n (pc := 8) F dX1_sum_8 rfl 2 rfl ?_
      refine hx_aload_n (pc := 9) F dX1_sum_9 rfl 0 rfl ?_
      refine h1_g15 (pc := 10) F rfl dX1_sum_10 ?_
      refine hx_icmp_ge (pc := 13) (tgt := 36) F (by omega) (by omega) dX1_sum_13 (by decide) (fun h13 => absurd h13 (by omega)) (fun h13 => ?_)
      refine hx_iload_n (pc := 16) F dX1_sum_16 rfl 1 rfl ?_
      refine hx_aload_n (pc := 17) F dX1_sum_17 rfl 0 rfl ?_
      refine h1_g3 (pc := 18) F rfl dX1_sum_18 ?_
      refine hx_aload_n (pc := 21) F dX1_sum_21 rfl 0 rfl ?_
      refine h1_g14 (pc := 22) F rfl dX1_sum_22 ?_
      refine hx_iload_n (pc := 25) F dX1_sum_25 rfl 2 rfl ?_
      refine h1_l14 (pc := 26) F (by omega) dX1_sum_26 ?_
      refine h1_l3 (pc := 27) F (by omega) dX1_sum_27 ?_
      refine hx_iadd (pc := 28) F dX1_sum_28 ?_
      refine hx_istore_n (pc := 29) (lv' := [(0, .ref (hg_h G)), (1, .int (nI (a + (ω 3 (ω 14 i))))), (2, .int (nI i))]) F dX1_sum_29 rfl (by decide) [1, 0, 2] rfl ?_
      refine hx_iinc (pc := 30) (lv' := [(0, .ref (hg_h G)), (1, .int (nI (a + (ω 3 (ω 14 i))))), (2, .int (nI (i + 1)))]) F dX1_sum_30 2 rfl (hx_inc1 _) (by decide) [1, 2, 0] rfl ?_
      refine hx_goto (pc := 33) (tgt := 8) F dX1_sum_33 (by decide) ?_
      exact ih8 (i + 1) _ (by omega) hf8
  exact L8 (ω 15 0) 0 0 (by omega) (by rw [hω]; rfl)
end
section
set_option maxRecDepth 100000
set_option maxHeartbeats 4000000 in
theorem ct_X2_isRoot (l : Launch) (G : hx_G) (σ : hs_S) (r : Nat) (hk : r < 4294967296) : hx_cI l yX2_isRoot mX2_isRoot (V2 G) σ [.ref (hg_h G), .int (nI r)] (mf_root r) (σ) := by
  refine hx_enterI (by decide +kernel) rfl (Nat.le_of_ble_eq_true rfl) (fun X E F => ?_)
  show hx_W X mX2_isRoot (V2 G) σ 0 [(0, .ref (hg_h G)), (1, .int (nI r))] []
  refine hx_iload_n (pc := 0) F dX2_isRoot_0 rfl 1 rfl ?_
  refine hx_if_lt (pc := 1) (tgt := 14) F (by omega) dX2_isRoot_1 (by decide) (fun h1 => ?_) (fun h1 => ?_)
  · refine hx_iconst (pc := 14) F dX2_isRoot_14 kc_i0 ?_
    exact hx_iret (pc := 15) F E rfl (by decide +kernel) ⟨congrArg nI (by unfold mf_root; (repeat' split) <;> first | (exfalso; omega) | rfl | contradiction), rfl⟩ dX2_isRoot_15
  · refine hx_iload_n (pc := 4) F dX2_isRoot_4 rfl 1 rfl ?_
    refine hx_bipush (pc := 5) F dX2_isRoot_5 kc_b8 ?_
    refine hx_icmp_ge (pc := 7) (tgt := 14) F (by omega) (by omega) dX2_isRoot_7 (by decide) (fun h7 => ?_) (fun h7 => ?_)
    · refine hx_iconst (pc := 14) F dX2_isRoot_14 kc_i0 ?_
      exact hx_iret (pc := 15) F E rfl (by decide +kernel) ⟨congrArg nI (by unfold mf_root; (repeat' split) <;> first | (exfalso; omega) | rfl | contradiction), rfl⟩ dX2_isRoot_15
    · refine hx_iconst (pc := 10) F dX2_isRoot_10 kc_i1 ?_
      refine hx_goto (pc := 11) (tgt := 15) F dX2_isRoot_11 (by decide) ?_
      exact hx_iret (pc := 15) F E rfl (by decide +kernel) ⟨congrArg nI (by unfold mf_root; (repeat' split) <;> first | (exfalso; omega) | rfl | contradiction), rfl⟩ dX2_isRoot_15
set_option maxHeartbeats 4000000 in
theorem ct_X2_objectOf (l : Launch) (G : hx_G) (σ : hs_S) (r : Nat) (hk : r < 4294967296) : hx_cI l yX2_objectOf mX2_objectOf (V2 G) σ [.ref (hg_h G), .int (nI r)] (mf_obj σ r) (σ) := by
  refine hx_enterI (by decide +kernel) rfl (Nat.le_of_ble_eq_true rfl) (fun X E F => ?_)
  show hx_W X mX2_objectOf (V2 G) σ 0 [(0, .ref (hg_h G)), (1, .int (nI r))] []
  refine hx_aload_n (pc := 0) F dX2_objectOf_0 rfl 0 rfl ?_
  refine hx_iload_n (pc := 1) F dX2_objectOf_1 rfl 1 rfl ?_
  refine hc_X2_isRoot (pc := 2) F rfl (by decide) (ct_X2_isRoot _ G σ r hk) (Nat.le_of_ble_eq_true rfl) dX2_objectOf_2 ?_
  refine hx_if_eq (pc := 5) (tgt := 17) F (mf_root_lt _) dX2_objectOf_5 (by decide) (fun h5 => ?_) (fun h5 => ?_)
  · have hb5 : ¬ r < 8 := mf_root_0.mp h5
    refine hx_iconst (pc := 17) F dX2_objectOf_17 kc_im1 ?_
    exact hx_iret (pc := 18) F E rfl rfl ⟨congrArg nI (by unfold mf_obj; (repeat' split) <;> first | (exfalso; omega) | rfl | contradiction), rfl⟩ dX2_objectOf_18
  · have hb5 : r < 8 := Classical.byContradiction (fun q => h5 (mf_root_0.mpr q))
    refine hx_aload_n (pc := 8) F dX2_objectOf_8 rfl 0 rfl ?_
    refine h2_g0 (pc := 9) F rfl dX2_objectOf_9 ?_
    refine hx_iload_n (pc := 12) F dX2_objectOf_12 rfl 1 rfl ?_
    refine h2_l0 (pc := 13) F (by omega) dX2_objectOf_13 ?_
    refine hx_goto (pc := 14) (tgt := 18) F dX2_objectOf_14 (by decide) ?_
    exact hx_iret (pc := 18) F E rfl rfl ⟨congrArg nI (by unfold mf_obj; (repeat' split) <;> first | (exfalso; omega) | rfl | contradiction), rfl⟩ dX2_objectOf_18
set_option maxHeartbeats 4000000 in
theorem ct_X2_spread (l : Launch) (G : hx_G) (σ : hs_S) (a : Nat) (hk : mk_spread σ a) : hx_cV l yX2_spread mX2_spread (V2 G) σ [.ref (hg_h G), .int (nI a)] (mf_spread σ a) := by
  refine hx_enterV (by decide +kernel) rfl (Nat.le_of_ble_eq_true rfl) (fun X E F => ?_)
  show hx_W X mX2_spread (V2 G) σ 0 [(0, .ref (hg_h G)), (1, .int (nI a))] []
  obtain ⟨hk1, hk2, hk3⟩ := hk
  refine hx_iconst (pc := 0) F dX2_spread_0 kc_i0 ?_
  refine hx_istore_n (pc := 1) (lv' := [(0, .ref (hg_h G)), (1, .int (nI a)), (2, .int (nI 0))]) F dX2_spread_1 rfl (by decide) [1, 2, 0] rfl ?_
  have L2 : ∀ (n2 : Nat) (o : Nat) (τ : hs_S), o + n2 = 24 → it_f mf_s1 n2 o τ = mf_p1 σ → hx_W X mX2_spread (V2 G) τ 2 [(0, .ref (hg_h G)), (1, .int (nI a)), (2, .int (nI o))] [] := by
    intro n2
    induction n2 with
    | zero =>
      intro o τ hi2 hf2
      have hz2 : o = 24 := by omega
      have hs2 : τ = mf_p1 σ := hf2
      refine hx_as (σ' := mf_p1 σ) (lv' := [(0, .ref (hg_h G)), (1, .int (nI a)), (2, .int (nI 24))]) hs2 rfl (by rw [hz2]) rfl ?_
      refine hx_iload_n (pc := 2) F dX2_spread_2 rfl 2 rfl ?_
      refine hx_bipush (pc := 3) F dX2_spread_3 kc_b24 ?_
      refine hx_icmp_ge (pc := 5) (tgt := 23) F (by omega) (by omega) dX2_spread_5 (by decide) (fun h5 => ?_) (fun h5 => absurd h5 (by omega))
      refine hx_iconst (pc := 23) F dX2_spread_23 kc_i0 ?_
      refine hx_istore_n (pc := 24) (lv' := [(0, .ref (hg_h G)), (1, .int (nI a)), (2, .int (nI 0))]) F dX2_spread_24 rfl (by decide) [1, 2, 0] rfl ?_
      have L25 : ∀ (n25 : Nat) (r : Nat) (τ : hs_S), r + n25 = 8 → it_f (mf_s2 a) n25 r τ = mf_p2 σ a → it_k mk_s2 (mf_s2 a) n25 r τ → hx_W X mX2_spread (V2 G) τ 25 [(0, .ref (hg_h G)), (1, .int (nI a)), (2, .int (nI r))] [] := by
        intro n25
        induction n25 with
        | zero =>
          intro r τ hi25 hf25 hk25
          have hz25 : r = 8 := by omega
          have hs25 : τ = mf_p2 σ a := hf25
          refine hx_as (σ' := mf_p2 σ a) (lv' := [(0, .ref (hg_h G)), (1, .int (nI a)), (2, .int (nI 8))]) hs25 rfl (by rw [hz25]) rfl ?_
          refine hx_iload_n (pc := 25) F dX2_spread_25 rfl 2 rfl ?_
          refine hx_bipush (pc := 26) F dX2_spread_26 kc_b8 ?_
          refine hx_icmp_ge (pc := 28) (tgt := 67) F (by omega) (by omega) dX2_spread_28 (by decide) (fun h28 => ?_) (fun h28 => absurd h28 (by omega))
          refine hx_iconst (pc := 67) F dX2_spread_67 kc_i0 ?_
          refine hx_istore_n (pc := 68) (lv' := [(0, .ref (hg_h G)), (1, .int (nI a)), (2, .int (nI 0))]) F dX2_spread_68 rfl (by decide) [1, 2, 0] rfl ?_
          have L69 : ∀ (n69 : Nat) (q : Nat) (τ : hs_S), q + n69 = 24 → it_f mf_rnd n69 q τ = mf_spread σ a → it_k mk_rnd mf_rnd n69 q τ → hx_W X mX2_spread (V2 G) τ 69 [(0, .ref (hg_h G)), (1, .int (nI a)), (2, .int (nI q))] [] := by
            intro n69
            induction n69 with
            | zero =>
              intro q τ hi69 hf69 hk69
              have hz69 : q = 24 := by omega
              have hs69 : τ = mf_spread σ a := hf69
              refine hx_as (σ' := mf_spread σ a) (lv' := [(0, .ref (hg_h G)), (1, .int (nI a)), (2, .int (nI 24))]) hs69 rfl (by rw [hz69]) rfl ?_
              refine hx_iload_n (pc := 69) F dX2_spread_69 rfl 2 rfl ?_
              refine hx_bipush (pc := 70) F dX2_spread_70 kc_b24 ?_
              refine hx_icmp_ge (pc := 72) (tgt := 161) F (by omega) (by omega) dX2_spread_72 (by decide) (fun h72 => ?_) (fun h72 => absurd h72 (by omega))
              exact hx_vret (pc := 161) F E rfl rfl dX2_spread_161
            | succ n69 ih69 =>
              intro q τ hi69 hf69 hk69
              obtain ⟨hj69, hk69⟩ := hk69
              have hf69 : it_f mf_rnd n69 (q + 1) (mf_rnd q τ) = mf_spread σ a := hf69
              refine hx_iload_n (pc := 69) F dX2_spread_69 rfl 2 rfl ?_
              refine hx_bipush (pc := 70) F dX2_spread_70 kc_b24 ?_
              refine hx_icmp_ge (pc := 72) (tgt := 161) F (by omega) (by omega) dX2_spread_72 (by decide) (fun h72 => absurd h72 (by omega)) (fun h72 => ?_)
              refine hx_iconst (pc := 75) F dX2_spread_75 kc_i0 ?_
              refine hx_istore_n (pc := 76) (lv' := [(0, .ref (hg_h G)), (1, .int (nI a)), (2, .int (nI q)), (3, .int (nI 0))]) F dX2_spread_76 rfl (by decide) [1, 2, 3, 0] rfl ?_
              have L77 : ∀ (n77 : Nat) (i : Nat) (υ : hs_S), i + n77 = 72 → it_f mf_rel n77 i υ = mf_rnd q τ → it_k mk_rel mf_rel n77 i υ → hx_W X mX2_spread (V2 G) υ 77 [(0, .ref (hg_h G)), (1, .int (nI a)), (2, .int (nI q)), (3, .int (nI i))] [] := by
                intro n77
                induction n77 with
                | zero =>
                  intro i υ hi77 hf77 hk77
                  have hz77 : i = 72 := by omega
                  have hs77 : υ = mf_rnd q τ := hf77
                  refine hx_as (σ' := mf_rnd q τ) (lv' := [(0, .ref (hg_h G)), (1, .int (nI a)), (2, .int (nI q)), (3, .int (nI 72))]) hs77 rfl (by rw [hz77]) rfl ?_
                  refine hx_iload_n (pc := 77) F dX2_spread_77 rfl 3 rfl ?_
                  refine hx_bipush (pc := 78) F dX2_spread_78 kc_b72 ?_
                  refine hx_icmp_ge (pc := 80) (tgt := 155) F (by omega) (by omega) dX2_spread_80 (by decide) (fun h80 => ?_) (fun h80 => absurd h80 (by omega))
                  refine hx_iinc (pc := 155) (lv' := [(0, .ref (hg_h G)), (1, .int (nI a)), (2, .int (nI (q + 1))), (3, .int (nI 72))]) F dX2_spread_155 2 rfl (hx_inc1 _) (by decide) [1, 2, 0, 3] rfl ?_
                  refine hx_goto (pc := 158) (tgt := 69) F dX2_spread_158 (by decide) ?_
                  refine hx_sub [0, 1, 2] (lv' := [(0, .ref (hg_h G)), (1, .int (nI a)), (2, .int (nI (q + 1)))]) rfl ?_
                  have e69 : mf_rnd q τ = mf_rnd q τ := rfl
                  rw [e69] at hf69 hk69
                  exact ih69 (q + 1) _ (by omega) hf69 hk69
                | succ n77 ih77 =>
                  intro i υ hi77 hf77 hk77
                  obtain ⟨hj77, hk77⟩ := hk77
                  have hf77 : it_f mf_rel n77 (i + 1) (mf_rel i υ) = mf_rnd q τ := hf77
                  refine hx_iload_n (pc := 77) F dX2_spread_77 rfl 3 rfl ?_
                  refine hx_bipush (pc := 78) F dX2_spread_78 kc_b72 ?_
                  refine hx_icmp_ge (pc := 80) (tgt := 155) F (by omega) (by omega) dX2_spread_80 (by decide) (fun h80 => absurd h80 (by omega)) (fun h80 => ?_)
                  obtain ⟨hj1, hj2⟩ := hj77
                  have hj3 : υ 1 i < 4294967296 := by rcases hj2 with q | q <;> omega
                  refine hx_iload_n (pc := 83) F dX2_spread_83 rfl 3 rfl ?_
                  refine hx_iconst (pc := 84) F dX2_spread_84 kc_i3 ?_
                  refine hx_idiv (pc := 85) F (by omega) (by decide) (by decide) dX2_spread_85 ?_
                  refine hx_istore (pc := 86) (lv' := [(0, .ref (hg_h G)), (1, .int (nI a)), (2, .int (nI q)), (3, .int (nI i)), (4, .int (nI (i / 3)))]) F dX2_spread_86 (by decide) [1, 2, 3, 4, 0] rfl ?_
                  refine hx_aload_n (pc := 88) F dX2_spread_88 rfl 0 rfl ?_
                  refine h2_g1 (pc := 89) F rfl dX2_spread_89 ?_
                  refine hx_iload_n (pc := 92) F dX2_spread_92 rfl 3 rfl ?_
                  refine h2_l1 (pc := 93) F (by omega) dX2_spread_93 ?_
                  refine hx_istore (pc := 94) (lv' := [(0, .ref (hg_h G)), (1, .int (nI a)), (2, .int (nI q)), (3, .int (nI i)), (4, .int (nI (i / 3))), (5, .int (nI (υ 1 i)))]) F dX2_spread_94 (by decide) [1, 2, 3, 4, 5, 0] rfl ?_
                  refine hx_aload_n (pc := 96) F dX2_spread_96 rfl 0 rfl ?_
                  refine h2_g3 (pc := 97) F rfl dX2_spread_97 ?_
                  refine hx_iload (pc := 100) F dX2_spread_100 4 rfl ?_
                  refine h2_l3 (pc := 102) F (by omega) dX2_spread_102 ?_
                  refine hx_sipush (pc := 103) F dX2_spread_103 kc_s1000 ?_
                  refine hx_icmp_ge (pc := 106) (tgt := 149) F (by omega) (by omega) dX2_spread_106 (by decide) (fun h106 => ?_) (fun h106 => ?_)
                  · refine hx_iinc (pc := 149) (lv' := [(0, .ref (hg_h G)), (1, .int (nI a)), (2, .int (nI q)), (3, .int (nI (i + 1))), (4, .int (nI (i / 3))), (5, .int (nI (υ 1 i)))]) F dX2_spread_149 3 rfl (hx_inc1 _) (by decide) [1, 2, 3, 0, 4, 5] rfl ?_
                    refine hx_goto (pc := 152) (tgt := 77) F dX2_spread_152 (by decide) ?_
                    refine hx_sub [0, 1, 2, 3] (lv' := [(0, .ref (hg_h G)), (1, .int (nI a)), (2, .int (nI q)), (3, .int (nI (i + 1)))]) rfl ?_
                    have e77 : mf_rel i υ = υ := (by unfold mf_rel; (repeat' split) <;> first | (exfalso; omega) | rfl | contradiction)
                    rw [e77] at hf77 hk77
                    exact ih77 (i + 1) _ (by omega) hf77 hk77
                  · refine hx_iload (pc := 109) F dX2_spread_109 5 rfl ?_
                    refine hx_if_lt (pc := 111) (tgt := 149) F (by omega) dX2_spread_111 (by decide) (fun h111 => ?_) (fun h111 => ?_)
                    · refine hx_iinc (pc := 149) (lv' := [(0, .ref (hg_h G)), (1, .int (nI a)), (2, .int (nI q)), (3, .int (nI (i + 1))), (4, .int (nI (i / 3))), (5, .int (nI (υ 1 i)))]) F dX2_spread_149 3 rfl (hx_inc1 _) (by decide) [1, 2, 3, 0, 4, 5] rfl ?_
                      refine hx_goto (pc := 152) (tgt := 77) F dX2_spread_152 (by decide) ?_
                      refine hx_sub [0, 1, 2, 3] (lv' := [(0, .ref (hg_h G)), (1, .int (nI a)), (2, .int (nI q)), (3, .int (nI (i + 1)))]) rfl ?_
                      have e77 : mf_rel i υ = υ := (by unfold mf_rel; (repeat' split) <;> first | (exfalso; omega) | rfl | contradiction)
                      rw [e77] at hf77 hk77
                      exact ih77 (i + 1) _ (by omega) hf77 hk77
                    · have hj4 : υ 1 i < 24 ∧ υ 3 (υ 1 i) ≤ 1000 := by
                        rcases hj2 with q | q
                        · omega
                        · exact q
                      obtain ⟨hj4, hj5⟩ := hj4
                      refine hx_aload_n (pc := 114) F dX2_spread_114 rfl 0 rfl ?_
                      refine h2_g3 (pc := 115) F rfl dX2_spread_115 ?_
                      refine hx_iload (pc := 118) F dX2_spread_118 4 rfl ?_
                      refine h2_l3 (pc := 120) F (by omega) dX2_spread_120 ?_
                      refine hx_iconst (pc := 121) F dX2_spread_121 kc_i1 ?_
                      refine hx_iadd (pc := 122) F dX2_spread_122 ?_
                      refine hx_aload_n (pc := 123) F dX2_spread_123 rfl 0 rfl ?_
                      refine h2_g3 (pc := 124) F rfl dX2_spread_124 ?_
                      refine hx_iload (pc := 127) F dX2_spread_127 5 rfl ?_
                      refine h2_l3 (pc := 129) F (by omega) dX2_spread_129 ?_
                      refine hx_icmp_ge (pc := 130) (tgt := 149) F (by omega) (by omega) dX2_spread_130 (by decide) (fun h130 => ?_) (fun h130 => ?_)
                      · refine hx_iinc (pc := 149) (lv' := [(0, .ref (hg_h G)), (1, .int (nI a)), (2, .int (nI q)), (3, .int (nI (i + 1))), (4, .int (nI (i / 3))), (5, .int (nI (υ 1 i)))]) F dX2_spread_149 3 rfl (hx_inc1 _) (by decide) [1, 2, 3, 0, 4, 5] rfl ?_
                        refine hx_goto (pc := 152) (tgt := 77) F dX2_spread_152 (by decide) ?_
                        refine hx_sub [0, 1, 2, 3] (lv' := [(0, .ref (hg_h G)), (1, .int (nI a)), (2, .int (nI q)), (3, .int (nI (i + 1)))]) rfl ?_
                        have e77 : mf_rel i υ = υ := (by unfold mf_rel; (repeat' split) <;> first | (exfalso; omega) | rfl | contradiction)
                        rw [e77] at hf77 hk77
                        exact ih77 (i + 1) _ (by omega) hf77 hk77
                      · refine hx_aload_n (pc := 133) F dX2_spread_133 rfl 0 rfl ?_
                        refine h2_g3 (pc := 134) F rfl dX2_spread_134 ?_
                        refine hx_iload (pc := 137) F dX2_spread_137 5 rfl ?_
                        refine hx_aload_n (pc := 139) F dX2_spread_139 rfl 0 rfl ?_
                        refine h2_g3 (pc := 140) F rfl dX2_spread_140 ?_
                        refine hx_iload (pc := 143) F dX2_spread_143 4 rfl ?_
                        refine h2_l3 (pc := 145) F (by omega) dX2_spread_145 ?_
                        refine hx_iconst (pc := 146) F dX2_spread_146 kc_i1 ?_
                        refine hx_iadd (pc := 147) F dX2_spread_147 ?_
                        refine h2_s3 (pc := 148) F (by omega) dX2_spread_148 ?_
                        refine hx_iinc (pc := 149) (lv' := [(0, .ref (hg_h G)), (1, .int (nI a)), (2, .int (nI q)), (3, .int (nI (i + 1))), (4, .int (nI (i / 3))), (5, .int (nI (υ 1 i)))]) F dX2_spread_149 3 rfl (hx_inc1 _) (by decide) [1, 2, 3, 0, 4, 5] rfl ?_
                        refine hx_goto (pc := 152) (tgt := 77) F dX2_spread_152 (by decide) ?_
                        refine hx_sub [0, 1, 2, 3] (lv' := [(0, .ref (hg_h G)), (1, .int (nI a)), (2, .int (nI q)), (3, .int (nI (i + 1)))]) rfl ?_
                        have e77 : mf_rel i υ = (hs_st υ 3 (υ 1 i) ((υ 3 (i / 3)) + 1)) := (by unfold mf_rel; (repeat' split) <;> first | (exfalso; omega) | rfl | contradiction)
                        rw [e77] at hf77 hk77
                        exact ih77 (i + 1) _ (by omega) hf77 hk77
              exact L77 (72) 0 τ (by omega) rfl hj69
          exact L69 (24) 0 (mf_p2 σ a) (by omega) rfl hk3
        | succ n25 ih25 =>
          intro r τ hi25 hf25 hk25
          obtain ⟨hj25, hk25⟩ := hk25
          have hf25 : it_f (mf_s2 a) n25 (r + 1) (mf_s2 a r τ) = mf_p2 σ a := hf25
          refine hx_iload_n (pc := 25) F dX2_spread_25 rfl 2 rfl ?_
          refine hx_bipush (pc := 26) F dX2_spread_26 kc_b8 ?_
          refine hx_icmp_ge (pc := 28) (tgt := 67) F (by omega) (by omega) dX2_spread_28 (by decide) (fun h28 => absurd h28 (by omega)) (fun h28 => ?_)
          refine hx_iload_n (pc := 31) F dX2_spread_31 rfl 1 rfl ?_
          refine hx_if_lt (pc := 32) (tgt := 40) F (by omega) dX2_spread_32 (by decide) (fun h32 => ?_) (fun h32 => ?_)
          · have hr32 : τ 0 r < 4294967296 := by rcases hj25 with q | q <;> omega
            refine hx_aload_n (pc := 40) F dX2_spread_40 rfl 0 rfl ?_
            refine h2_g0 (pc := 41) F rfl dX2_spread_41 ?_
            refine hx_iload_n (pc := 44) F dX2_spread_44 rfl 2 rfl ?_
            refine h2_l0 (pc := 45) F (by omega) dX2_spread_45 ?_
            refine hx_if_lt (pc := 46) (tgt := 61) F hr32 dX2_spread_46 (by decide) (fun h46 => ?_) (fun h46 => ?_)
            · refine hx_iinc (pc := 61) (lv' := [(0, .ref (hg_h G)), (1, .int (nI a)), (2, .int (nI (r + 1)))]) F dX2_spread_61 2 rfl (hx_inc1 _) (by decide) [1, 2, 0] rfl ?_
              refine hx_goto (pc := 64) (tgt := 25) F dX2_spread_64 (by decide) ?_
              have e25 : mf_s2 a r τ = τ := (by unfold mf_s2; (repeat' split) <;> first | (exfalso; omega) | rfl | contradiction)
              rw [e25] at hf25 hk25
              exact ih25 (r + 1) _ (by omega) hf25 hk25
            · have hr24 : τ 0 r < 24 := by rcases hj25 with q | q <;> omega
              refine hx_aload_n (pc := 49) F dX2_spread_49 rfl 0 rfl ?_
              refine h2_g3 (pc := 50) F rfl dX2_spread_50 ?_
              refine hx_aload_n (pc := 53) F dX2_spread_53 rfl 0 rfl ?_
              refine h2_g0 (pc := 54) F rfl dX2_spread_54 ?_
              refine hx_iload_n (pc := 57) F dX2_spread_57 rfl 2 rfl ?_
              refine h2_l0 (pc := 58) F (by omega) dX2_spread_58 ?_
              refine hx_iconst (pc := 59) F dX2_spread_59 kc_i0 ?_
              refine h2_s3 (pc := 60) F (by omega) dX2_spread_60 ?_
              refine hx_iinc (pc := 61) (lv' := [(0, .ref (hg_h G)), (1, .int (nI a)), (2, .int (nI (r + 1)))]) F dX2_spread_61 2 rfl (hx_inc1 _) (by decide) [1, 2, 0] rfl ?_
              refine hx_goto (pc := 64) (tgt := 25) F dX2_spread_64 (by decide) ?_
              have e25 : mf_s2 a r τ = (hs_st τ 3 (τ 0 r) 0) := (by unfold mf_s2; (repeat' split) <;> first | (exfalso; omega) | rfl | contradiction)
              rw [e25] at hf25 hk25
              exact ih25 (r + 1) _ (by omega) hf25 hk25
          · refine hx_iload_n (pc := 35) F dX2_spread_35 rfl 1 rfl ?_
            refine hx_iload_n (pc := 36) F dX2_spread_36 rfl 2 rfl ?_
            refine hx_icmp_ne (pc := 37) (tgt := 61) F (by omega) (by omega) dX2_spread_37 (by decide) (fun h37 => ?_) (fun h37 => ?_)
            · refine hx_iinc (pc := 61) (lv' := [(0, .ref (hg_h G)), (1, .int (nI a)), (2, .int (nI (r + 1)))]) F dX2_spread_61 2 rfl (hx_inc1 _) (by decide) [1, 2, 0] rfl ?_
              refine hx_goto (pc := 64) (tgt := 25) F dX2_spread_64 (by decide) ?_
              have e25 : mf_s2 a r τ = τ := (by unfold mf_s2; (repeat' split) <;> first | (exfalso; omega) | rfl | contradiction)
              rw [e25] at hf25 hk25
              exact ih25 (r + 1) _ (by omega) hf25 hk25
            · have hr32 : τ 0 r < 4294967296 := by rcases hj25 with q | q <;> omega
              refine hx_aload_n (pc := 40) F dX2_spread_40 rfl 0 rfl ?_
              refine h2_g0 (pc := 41) F rfl dX2_spread_41 ?_
              refine hx_iload_n (pc := 44) F dX2_spread_44 rfl 2 rfl ?_
              refine h2_l0 (pc := 45) F (by omega) dX2_spread_45 ?_
              refine hx_if_lt (pc := 46) (tgt := 61) F hr32 dX2_spread_46 (by decide) (fun h46 => ?_) (fun h46 => ?_)
              · refine hx_iinc (pc := 61) (lv' := [(0, .ref (hg_h G)), (1, .int (nI a)), (2, .int (nI (r + 1)))]) F dX2_spread_61 2 rfl (hx_inc1 _) (by decide) [1, 2, 0] rfl ?_
                refine hx_goto (pc := 64) (tgt := 25) F dX2_spread_64 (by decide) ?_
                have e25 : mf_s2 a r τ = τ := (by unfold mf_s2; (repeat' split) <;> first | (exfalso; omega) | rfl | contradiction)
                rw [e25] at hf25 hk25
                exact ih25 (r + 1) _ (by omega) hf25 hk25
              · have hr24 : τ 0 r < 24 := by rcases hj25 with q | q <;> omega
                refine hx_aload_n (pc := 49) F dX2_spread_49 rfl 0 rfl ?_
                refine h2_g3 (pc := 50) F rfl dX2_spread_50 ?_
                refine hx_aload_n (pc := 53) F dX2_spread_53 rfl 0 rfl ?_
                refine h2_g0 (pc := 54) F rfl dX2_spread_54 ?_
                refine hx_iload_n (pc := 57) F dX2_spread_57 rfl 2 rfl ?_
                refine h2_l0 (pc := 58) F (by omega) dX2_spread_58 ?_
                refine hx_iconst (pc := 59) F dX2_spread_59 kc_i0 ?_
                refine h2_s3 (pc := 60) F (by omega) dX2_spread_60 ?_
                refine hx_iinc (pc := 61) (lv' := [(0, .ref (hg_h G)), (1, .int (nI a)), (2, .int (nI (r + 1)))]) F dX2_spread_61 2 rfl (hx_inc1 _) (by decide) [1, 2, 0] rfl ?_
                refine hx_goto (pc := 64) (tgt := 25) F dX2_spread_64 (by decide) ?_
                have e25 : mf_s2 a r τ = (hs_st τ 3 (τ 0 r) 0) := (by unfold mf_s2; (repeat' split) <;> first | (exfalso; omega) | rfl | contradiction)
                rw [e25] at hf25 hk25
                exact ih25 (r + 1) _ (by omega) hf25 hk25
      exact L25 (8) 0 (mf_p1 σ) (by omega) rfl hk2
    | succ n2 ih2 =>
      intro o τ hi2 hf2
      have hf2 : it_f mf_s1 n2 (o + 1) (mf_s1 o τ) = mf_p1 σ := hf2
      refine hx_iload_n (pc := 2) F dX2_spread_2 rfl 2 rfl ?_
      refine hx_bipush (pc := 3) F dX2_spread_3 kc_b24 ?_
      refine hx_icmp_ge (pc := 5) (tgt := 23) F (by omega) (by omega) dX2_spread_5 (by decide) (fun h5 => absurd h5 (by omega)) (fun h5 => ?_)
      refine hx_aload_n (pc := 8) F dX2_spread_8 rfl 0 rfl ?_
      refine h2_g3 (pc := 9) F rfl dX2_spread_9 ?_
      refine hx_iload_n (pc := 12) F dX2_spread_12 rfl 2 rfl ?_
      refine hx_sipush (pc := 13) F dX2_spread_13 kc_s1000 ?_
      refine h2_s3 (pc := 16) F (by omega) dX2_spread_16 ?_
      refine hx_iinc (pc := 17) (lv' := [(0, .ref (hg_h G)), (1, .int (nI a)), (2, .int (nI (o + 1)))]) F dX2_spread_17 2 rfl (hx_inc1 _) (by decide) [1, 2, 0] rfl ?_
      refine hx_goto (pc := 20) (tgt := 2) F dX2_spread_20 (by decide) ?_
      have e2 : mf_s1 o τ = (hs_st τ 3 o 1000) := rfl
      rw [e2] at hf2
      exact ih2 (o + 1) _ (by omega) hf2
  exact L2 (24) 0 σ (by omega) rfl
set_option maxHeartbeats 4000000 in
theorem ct_X2_found (l : Launch) (G : hx_G) (σ : hs_S) (hk : mk_found σ) : hx_cI l yX2_found mX2_found (V2 G) σ [.ref (hg_h G)] (mf_found σ) (σ) := by
  refine hx_enterI (by decide +kernel) rfl (Nat.le_of_ble_eq_true rfl) (fun X E F => ?_)
  show hx_W X mX2_found (V2 G) σ 0 [(0, .ref (hg_h G))] []
  refine hx_iconst (pc := 0) F dX2_found_0 kc_i0 ?_
  refine hx_istore_n (pc := 1) (lv' := [(0, .ref (hg_h G)), (1, .int (nI 0))]) F dX2_found_1 rfl (by decide) [1, 0] rfl ?_
  refine hx_iconst (pc := 2) F dX2_found_2 kc_i0 ?_
  refine hx_istore_n (pc := 3) (lv' := [(0, .ref (hg_h G)), (1, .int (nI 0)), (2, .int (nI 0))]) F dX2_found_3 rfl (by decide) [1, 2, 0] rfl ?_
  have L4 : ∀ (n4 : Nat) (o : Nat) (c : Nat), o + n4 = 24 → it_f (mf_fo σ) n4 o c = mf_found σ → hx_W X mX2_found (V2 G) σ 4 [(0, .ref (hg_h G)), (1, .int (nI c)), (2, .int (nI o))] [] := by
    intro n4
    induction n4 with
    | zero =>
      intro o c hi4 hf4
      have hf4 : c = mf_found σ := hf4
      refine hx_iload_n (pc := 4) F dX2_found_4 rfl 2 rfl ?_
      refine hx_bipush (pc := 5) F dX2_found_5 kc_b24 ?_
      refine hx_icmp_ge (pc := 7) (tgt := 31) F (by omega) (by omega) dX2_found_7 (by decide) (fun h7 => ?_) (fun h7 => absurd h7 (by omega))
      refine hx_iload_n (pc := 31) F dX2_found_31 rfl 1 rfl ?_
      exact hx_iret (pc := 32) F E rfl rfl ⟨congrArg nI hf4, rfl⟩ dX2_found_32
    | succ n4 ih4 =>
      intro o c hi4 hf4
      have hf4 : it_f (mf_fo σ) n4 (o + 1) (mf_fo σ o c) = mf_found σ := hf4
      have hq := hk o (by omega)
      refine hx_iload_n (pc := 4) F dX2_found_4 rfl 2 rfl ?_
      refine hx_bipush (pc := 5) F dX2_found_5 kc_b24 ?_
      refine hx_icmp_ge (pc := 7) (tgt := 31) F (by omega) (by omega) dX2_found_7 (by decide) (fun h7 => absurd h7 (by omega)) (fun h7 => ?_)
      refine hx_aload_n (pc := 10) F dX2_found_10 rfl 0 rfl ?_
      refine h2_g3 (pc := 11) F rfl dX2_found_11 ?_
      refine hx_iload_n (pc := 14) F dX2_found_14 rfl 2 rfl ?_
      refine h2_l3 (pc := 15) F (by omega) dX2_found_15 ?_
      refine hx_sipush (pc := 16) F dX2_found_16 kc_s1000 ?_
      refine hx_icmp_ge (pc := 19) (tgt := 25) F (by omega) (by omega) dX2_found_19 (by decide) (fun h19 => ?_) (fun h19 => ?_)
      · refine hx_iinc (pc := 25) (lv' := [(0, .ref (hg_h G)), (1, .int (nI c)), (2, .int (nI (o + 1)))]) F dX2_found_25 2 rfl (hx_inc1 _) (by decide) [1, 2, 0] rfl ?_
        refine hx_goto (pc := 28) (tgt := 4) F dX2_found_28 (by decide) ?_
        have e4 : mf_fo σ o c = c := (by unfold mf_fo; (repeat' split) <;> first | (exfalso; omega) | rfl | contradiction)
        rw [e4] at hf4
        exact ih4 (o + 1) _ (by omega) hf4
      · refine hx_iinc (pc := 22) (lv' := [(0, .ref (hg_h G)), (1, .int (nI (c + 1))), (2, .int (nI o))]) F dX2_found_22 1 rfl (hx_inc1 _) (by decide) [1, 0, 2] rfl ?_
        refine hx_iinc (pc := 25) (lv' := [(0, .ref (hg_h G)), (1, .int (nI (c + 1))), (2, .int (nI (o + 1)))]) F dX2_found_25 2 rfl (hx_inc1 _) (by decide) [1, 2, 0] rfl ?_
        refine hx_goto (pc := 28) (tgt := 4) F dX2_found_28 (by decide) ?_
        have e4 : mf_fo σ o c = c + 1 := (by unfold mf_fo; (repeat' split) <;> first | (exfalso; omega) | rfl | contradiction)
        rw [e4] at hf4
        exact ih4 (o + 1) _ (by omega) hf4
  exact L4 24 0 0 (by omega) rfl
set_option maxHeartbeats 4000000 in
theorem ct_X2_reachable (l : Launch) (G : hx_G) (σ : hs_S) (hk : mk_reach σ) : hx_cI l yX2_reachable mX2_reachable (V2 G) σ [.ref (hg_h G)] (mf_found (mf_reach σ)) (mf_reach σ) := by
  refine hx_enterI (by decide +kernel) rfl (Nat.le_of_ble_eq_true rfl) (fun X E F => ?_)
  show hx_W X mX2_reachable (V2 G) σ 0 [(0, .ref (hg_h G))] []
  obtain ⟨hk1, hk2⟩ := hk
  refine hx_aload_n (pc := 0) F dX2_reachable_0 rfl 0 rfl ?_
  refine hx_iconst (pc := 1) F dX2_reachable_1 kc_im1 ?_
  refine hc_X2_spread (pc := 2) F rfl (by decide) (ct_X2_spread _ G σ 4294967295 hk1) (Nat.le_of_ble_eq_true rfl) dX2_reachable_2 ?_
  refine hx_as (σ' := (mf_reach σ)) rfl rfl rfl rfl ?_
  refine hx_aload_n (pc := 5) F dX2_reachable_5 rfl 0 rfl ?_
  refine hc_X2_found (pc := 6) F rfl (by decide) (ct_X2_found _ G (mf_reach σ)  hk2) (Nat.le_of_ble_eq_true rfl) dX2_reachable_6 ?_
  exact hx_iret (pc := 9) F E rfl rfl ⟨rfl, rfl⟩ dX2_reachable_9
set_option maxHeartbeats 4000000 in
theorem ct_X2_make (l : Launch) (G : hx_G) (σ : hs_S) (r : Nat) (v : Nat) (hk : r < 4294967296 ∧ mk_make σ r) : hx_cI l yX2_make mX2_make (V2 G) σ [.ref (hg_h G), .int (nI r), .int (nI v)] (mr_make σ r) (mf_make σ r v) := by
  refine hx_enterI (by decide +kernel) rfl (Nat.le_of_ble_eq_true rfl) (fun X E F => ?_)
  show hx_W X mX2_make (V2 G) σ 0 [(0, .ref (hg_h G)), (1, .int (nI r)), (2, .int (nI v))] []
  obtain ⟨hk0, hk1⟩ := hk
  refine hx_aload_n (pc := 0) F dX2_make_0 rfl 0 rfl ?_
  refine hx_iload_n (pc := 1) F dX2_make_1 rfl 1 rfl ?_
  refine hc_X2_isRoot (pc := 2) F rfl (by decide) (ct_X2_isRoot _ G σ r hk0) (Nat.le_of_ble_eq_true rfl) dX2_make_2 ?_
  refine hx_if_ne (pc := 5) (tgt := 10) F (mf_root_lt _) dX2_make_5 (by decide) (fun h5 => ?_) (fun h5 => ?_)
  · have hb5 : r < 8 := Classical.byContradiction (fun q => h5 (mf_root_0.mpr q))
    refine hx_aload_n (pc := 10) F dX2_make_10 rfl 0 rfl ?_
    refine hc_X2_reachable (pc := 11) F rfl (by decide) (ct_X2_reachable _ G σ  (hk1 hb5).1) (Nat.le_of_ble_eq_true rfl) dX2_make_11 ?_
    refine hx_name (fun cn hcn => ?_)
    refine hx_gen (fun ω hω => ?_)
    have hq1 : cn < 4294967296 := by rw [hcn]; exact (hk1 hb5).2.1
    have hk6 : mk_found ω := by rw [hω]; exact (hk1 hb5).1.2
    refine hx_bipush (pc := 14) F dX2_make_14 kc_b24 ?_
    refine hx_icmp_ne (pc := 16) (tgt := 22) F (by omega) (by omega) dX2_make_16 (by decide) (fun h16 => ?_) (fun h16 => ?_)
    · obtain ⟨pl, hpl⟩ : ∃ x, x = mf_place ω := ⟨_, rfl⟩
      have hq2 : pl < 24 := by rw [hpl, hω]; exact (hk1 hb5).2.2 (by rw [← hcn]; exact h16)
      refine hx_iconst (pc := 22) F dX2_make_22 kc_im1 ?_
      refine hx_istore_n (pc := 23) (lv' := [(0, .ref (hg_h G)), (1, .int (nI r)), (2, .int (nI v)), (3, .int (nI 4294967295))]) F dX2_make_23 rfl (by decide) [1, 2, 3, 0] rfl ?_
      refine hx_iconst (pc := 24) F dX2_make_24 kc_i0 ?_
      refine hx_istore (pc := 25) (lv' := [(0, .ref (hg_h G)), (1, .int (nI r)), (2, .int (nI v)), (3, .int (nI 4294967295)), (4, .int (nI 0))]) F dX2_make_25 (by decide) [1, 2, 3, 4, 0] rfl ?_
      have L27 : ∀ (n27 : Nat) (o : Nat) (p : Nat), o + n27 = 24 → it_f (mf_pl ω) n27 o p = pl → hx_W X mX2_make (V2 G) ω 27 [(0, .ref (hg_h G)), (1, .int (nI r)), (2, .int (nI v)), (3, .int (nI p)), (4, .int (nI o))] [] := by
        intro n27
        induction n27 with
        | zero =>
          intro o p hi27 hf27
          have hf27 : p = pl := hf27
          refine hx_as (σ' := ω) (lv' := [(0, .ref (hg_h G)), (1, .int (nI r)), (2, .int (nI v)), (3, .int (nI pl)), (4, .int (nI o))]) rfl rfl (by rw [hf27]) rfl ?_
          refine hx_iload (pc := 27) F dX2_make_27 4 rfl ?_
          refine hx_bipush (pc := 29) F dX2_make_29 kc_b24 ?_
          refine hx_icmp_ge (pc := 31) (tgt := 56) F (by omega) (by omega) dX2_make_31 (by decide) (fun h31 => ?_) (fun h31 => absurd h31 (by omega))
          refine hx_iconst (pc := 56) F dX2_make_56 kc_i0 ?_
          refine hx_istore (pc := 57) (lv' := [(0, .ref (hg_h G)), (1, .int (nI r)), (2, .int (nI v)), (3, .int (nI pl)), (4, .int (nI 0))]) F dX2_make_57 (by decide) [1, 2, 3, 4, 0] rfl ?_
          have L59 : ∀ (n59 : Nat) (f : Nat) (τ : hs_S), f + n59 = 3 → it_f (mf_k1 pl) n59 f τ = it_f (mf_k1 pl) 3 0 ω → hx_W X mX2_make (V2 G) τ 59 [(0, .ref (hg_h G)), (1, .int (nI r)), (2, .int (nI v)), (3, .int (nI pl)), (4, .int (nI f))] [] := by
            intro n59
            induction n59 with
            | zero =>
              intro f τ hi59 hf59
              have hz59 : f = 3 := by omega
              have hs59 : τ = it_f (mf_k1 pl) 3 0 ω := hf59
              refine hx_as (σ' := it_f (mf_k1 pl) 3 0 ω) (lv' := [(0, .ref (hg_h G)), (1, .int (nI r)), (2, .int (nI v)), (3, .int (nI pl)), (4, .int (nI 3))]) hs59 rfl (by rw [hz59]) rfl ?_
              refine hx_iload (pc := 59) F dX2_make_59 4 rfl ?_
              refine hx_iconst (pc := 61) F dX2_make_61 kc_i3 ?_
              refine hx_icmp_ge (pc := 62) (tgt := 83) F (by omega) (by omega) dX2_make_62 (by decide) (fun h62 => ?_) (fun h62 => absurd h62 (by omega))
              refine hx_aload_n (pc := 83) F dX2_make_83 rfl 0 rfl ?_
              refine h2_g2 (pc := 84) F rfl dX2_make_84 ?_
              refine hx_iload_n (pc := 87) F dX2_make_87 rfl 3 rfl ?_
              refine hx_iload_n (pc := 88) F dX2_make_88 rfl 2 rfl ?_
              refine h2_s2 (pc := 89) F (by omega) dX2_make_89 ?_
              refine hx_aload_n (pc := 90) F dX2_make_90 rfl 0 rfl ?_
              refine h2_g0 (pc := 91) F rfl dX2_make_91 ?_
              refine hx_iload_n (pc := 94) F dX2_make_94 rfl 1 rfl ?_
              refine hx_iload_n (pc := 95) F dX2_make_95 rfl 3 rfl ?_
              refine h2_s0 (pc := 96) F (by omega) dX2_make_96 ?_
              refine hx_iconst (pc := 97) F dX2_make_97 kc_i0 ?_
              exact hx_iret (pc := 98) F E rfl rfl ⟨congrArg nI (by unfold mr_make; rw [if_pos hb5, if_neg (by rw [← hcn]; exact h16)]), by unfold mf_make; rw [if_pos hb5, if_neg (by rw [← hcn]; exact h16), hpl, hω]; rfl⟩ dX2_make_98
            | succ n59 ih59 =>
              intro f τ hi59 hf59
              have hf59 : it_f (mf_k1 pl) n59 (f + 1) (mf_k1 pl f τ) = it_f (mf_k1 pl) 3 0 ω := hf59
              refine hx_iload (pc := 59) F dX2_make_59 4 rfl ?_
              refine hx_iconst (pc := 61) F dX2_make_61 kc_i3 ?_
              refine hx_icmp_ge (pc := 62) (tgt := 83) F (by omega) (by omega) dX2_make_62 (by decide) (fun h62 => absurd h62 (by omega)) (fun h62 => ?_)
              refine hx_aload_n (pc := 65) F dX2_make_65 rfl 0 rfl ?_
              refine h2_g1 (pc := 66) F rfl dX2_make_66 ?_
              refine hx_iload_n (pc := 69) F dX2_make_69 rfl 3 rfl ?_
              refine hx_iconst (pc := 70) F dX2_make_70 kc_i3 ?_
              refine hx_imul (pc := 71) F dX2_make_71 ?_
              refine hx_iload (pc := 72) F dX2_make_72 4 rfl ?_
              refine hx_iadd (pc := 74) F dX2_make_74 ?_
              refine hx_iconst (pc := 75) F dX2_make_75 kc_im1 ?_
              refine h2_s1 (pc := 76) F (by omega) dX2_make_76 ?_
              refine hx_iinc (pc := 77) (lv' := [(0, .ref (hg_h G)), (1, .int (nI r)), (2, .int (nI v)), (3, .int (nI pl)), (4, .int (nI (f + 1)))]) F dX2_make_77 4 rfl (hx_inc1 _) (by decide) [1, 2, 3, 4, 0] rfl ?_
              refine hx_goto (pc := 80) (tgt := 59) F dX2_make_80 (by decide) ?_
              have e59 : mf_k1 pl f τ = (hs_st τ 1 ((pl * 3) + f) 4294967295) := rfl
              rw [e59] at hf59
              exact ih59 (f + 1) _ (by omega) hf59
          exact L59 (3) 0 ω (by omega) rfl
        | succ n27 ih27 =>
          intro o p hi27 hf27
          have hf27 : it_f (mf_pl ω) n27 (o + 1) (mf_pl ω o p) = pl := hf27
          have hq := hk6 o (by omega)
          refine hx_iload (pc := 27) F dX2_make_27 4 rfl ?_
          refine hx_bipush (pc := 29) F dX2_make_29 kc_b24 ?_
          refine hx_icmp_ge (pc := 31) (tgt := 56) F (by omega) (by omega) dX2_make_31 (by decide) (fun h31 => absurd h31 (by omega)) (fun h31 => ?_)
          refine hx_aload_n (pc := 34) F dX2_make_34 rfl 0 rfl ?_
          refine h2_g3 (pc := 35) F rfl dX2_make_35 ?_
          refine hx_iload (pc := 38) F dX2_make_38 4 rfl ?_
          refine h2_l3 (pc := 40) F (by omega) dX2_make_40 ?_
          refine hx_sipush (pc := 41) F dX2_make_41 kc_s1000 ?_
          refine hx_icmp_ne (pc := 44) (tgt := 50) F (by omega) (by omega) dX2_make_44 (by decide) (fun h44 => ?_) (fun h44 => ?_)
          · refine hx_iinc (pc := 50) (lv' := [(0, .ref (hg_h G)), (1, .int (nI r)), (2, .int (nI v)), (3, .int (nI p)), (4, .int (nI (o + 1)))]) F dX2_make_50 4 rfl (hx_inc1 _) (by decide) [1, 2, 3, 4, 0] rfl ?_
            refine hx_goto (pc := 53) (tgt := 27) F dX2_make_53 (by decide) ?_
            have e27 : mf_pl ω o p = p := (by unfold mf_pl; (repeat' split) <;> first | (exfalso; omega) | rfl | contradiction)
            rw [e27] at hf27
            exact ih27 (o + 1) _ (by omega) hf27
          · refine hx_iload (pc := 47) F dX2_make_47 4 rfl ?_
            refine hx_istore_n (pc := 49) (lv' := [(0, .ref (hg_h G)), (1, .int (nI r)), (2, .int (nI v)), (3, .int (nI o)), (4, .int (nI o))]) F dX2_make_49 rfl (by decide) [1, 2, 3, 0, 4] rfl ?_
            refine hx_iinc (pc := 50) (lv' := [(0, .ref (hg_h G)), (1, .int (nI r)), (2, .int (nI v)), (3, .int (nI o)), (4, .int (nI (o + 1)))]) F dX2_make_50 4 rfl (hx_inc1 _) (by decide) [1, 2, 3, 4, 0] rfl ?_
            refine hx_goto (pc := 53) (tgt := 27) F dX2_make_53 (by decide) ?_
            have e27 : mf_pl ω o p = o := (by unfold mf_pl; (repeat' split) <;> first | (exfalso; omega) | rfl | contradiction)
            rw [e27] at hf27
            exact ih27 (o + 1) _ (by omega) hf27
      exact L27 24 0 4294967295 (by omega) hpl.symm
    · refine hx_bipush (pc := 19) F dX2_make_19 kc_bm4 ?_
      exact hx_iret (pc := 21) F E rfl rfl ⟨congrArg nI (by unfold mr_make; rw [if_pos hb5, if_pos (by rw [← hcn]; exact h16)]), by unfold mf_make; rw [if_pos hb5, if_pos (by rw [← hcn]; exact h16), hω]⟩ dX2_make_21
  · have hb5 : ¬ r < 8 := mf_root_0.mp h5
    refine hx_iconst (pc := 8) F dX2_make_8 kc_im1 ?_
    exact hx_iret (pc := 9) F E rfl rfl ⟨congrArg nI (if_neg hb5 : mr_make σ r = 4294967295).symm, (if_neg hb5 : mf_make σ r v = σ).symm⟩ dX2_make_9
end
section
set_option maxRecDepth 100000
set_option maxHeartbeats 4000000 in
theorem ct_X2_copyRoot (l : Launch) (G : hx_G) (σ : hs_S) (a : Nat) (b : Nat) (hk : a < 4294967296 ∧ b < 4294967296) : hx_cI l yX2_copyRoot mX2_copyRoot (V2 G) σ [.ref (hg_h G), .int (nI a), .int (nI b)] (cr_copy a b) (mf_copy σ a b) := by
  refine hx_enterI (by decide +kernel) rfl (Nat.le_of_ble_eq_true rfl) (fun X E F => ?_)
  show hx_W X mX2_copyRoot (V2 G) σ 0 [(0, .ref (hg_h G)), (1, .int (nI a)), (2, .int (nI b))] []
  obtain ⟨hk0, hk1⟩ := hk
  refine hx_aload_n (pc := 0) F dX2_copyRoot_0 rfl 0 rfl ?_
  refine hx_iload_n (pc := 1) F dX2_copyRoot_1 rfl 1 rfl ?_
  refine hc_X2_isRoot (pc := 2) F rfl (by decide) (ct_X2_isRoot _ G σ a hk0) (Nat.le_of_ble_eq_true rfl) dX2_copyRoot_2 ?_
  refine hx_if_eq (pc := 5) (tgt := 16) F (mf_root_lt _) dX2_copyRoot_5 (by decide) (fun h5 => ?_) (fun h5 => ?_)
  · have hb5 : ¬ a < 8 := mf_root_0.mp h5
    refine hx_iconst (pc := 16) F dX2_copyRoot_16 kc_im1 ?_
    exact hx_iret (pc := 17) F E rfl rfl ⟨congrArg nI (by unfold cr_copy; (repeat' split) <;> first | (exfalso; omega) | rfl | contradiction), (by unfold mf_copy; (repeat' split) <;> first | (exfalso; omega) | rfl | contradiction)⟩ dX2_copyRoot_17
  · have hb5 : a < 8 := Classical.byContradiction (fun q => h5 (mf_root_0.mpr q))
    refine hx_aload_n (pc := 8) F dX2_copyRoot_8 rfl 0 rfl ?_
    refine hx_iload_n (pc := 9) F dX2_copyRoot_9 rfl 2 rfl ?_
    refine hc_X2_isRoot (pc := 10) F rfl (by decide) (ct_X2_isRoot _ G σ b hk1) (Nat.le_of_ble_eq_true rfl) dX2_copyRoot_10 ?_
    refine hx_if_ne (pc := 13) (tgt := 18) F (mf_root_lt _) dX2_copyRoot_13 (by decide) (fun h13 => ?_) (fun h13 => ?_)
    · have hb13 : b < 8 := Classical.byContradiction (fun q => h13 (mf_root_0.mpr q))
      refine hx_aload_n (pc := 18) F dX2_copyRoot_18 rfl 0 rfl ?_
      refine h2_g0 (pc := 19) F rfl dX2_copyRoot_19 ?_
      refine hx_iload_n (pc := 22) F dX2_copyRoot_22 rfl 2 rfl ?_
      refine hx_aload_n (pc := 23) F dX2_copyRoot_23 rfl 0 rfl ?_
      refine h2_g0 (pc := 24) F rfl dX2_copyRoot_24 ?_
      refine hx_iload_n (pc := 27) F dX2_copyRoot_27 rfl 1 rfl ?_
      refine h2_l0 (pc := 28) F (by omega) dX2_copyRoot_28 ?_
      refine h2_s0 (pc := 29) F (by omega) dX2_copyRoot_29 ?_
      refine hx_iconst (pc := 30) F dX2_copyRoot_30 kc_i0 ?_
      exact hx_iret (pc := 31) F E rfl rfl ⟨congrArg nI (by unfold cr_copy; (repeat' split) <;> first | (exfalso; omega) | rfl | contradiction), (by unfold mf_copy; (repeat' split) <;> first | (exfalso; omega) | rfl | contradiction)⟩ dX2_copyRoot_31
    · have hb13 : ¬ b < 8 := mf_root_0.mp h13
      refine hx_iconst (pc := 16) F dX2_copyRoot_16 kc_im1 ?_
      exact hx_iret (pc := 17) F E rfl rfl ⟨congrArg nI (by unfold cr_copy; (repeat' split) <;> first | (exfalso; omega) | rfl | contradiction), (by unfold mf_copy; (repeat' split) <;> first | (exfalso; omega) | rfl | contradiction)⟩ dX2_copyRoot_17
set_option maxHeartbeats 4000000 in
theorem ct_X2_drop (l : Launch) (G : hx_G) (σ : hs_S) (a : Nat) (hk : a < 4294967296) : hx_cI l yX2_drop mX2_drop (V2 G) σ [.ref (hg_h G), .int (nI a)] (cr_drop a) (mf_drop σ a) := by
  refine hx_enterI (by decide +kernel) rfl (Nat.le_of_ble_eq_true rfl) (fun X E F => ?_)
  show hx_W X mX2_drop (V2 G) σ 0 [(0, .ref (hg_h G)), (1, .int (nI a))] []
  refine hx_aload_n (pc := 0) F dX2_drop_0 rfl 0 rfl ?_
  refine hx_iload_n (pc := 1) F dX2_drop_1 rfl 1 rfl ?_
  refine hc_X2_isRoot (pc := 2) F rfl (by decide) (ct_X2_isRoot _ G σ a hk) (Nat.le_of_ble_eq_true rfl) dX2_drop_2 ?_
  refine hx_if_ne (pc := 5) (tgt := 10) F (mf_root_lt _) dX2_drop_5 (by decide) (fun h5 => ?_) (fun h5 => ?_)
  · have hb5 : a < 8 := Classical.byContradiction (fun q => h5 (mf_root_0.mpr q))
    refine hx_aload_n (pc := 10) F dX2_drop_10 rfl 0 rfl ?_
    refine h2_g0 (pc := 11) F rfl dX2_drop_11 ?_
    refine hx_iload_n (pc := 14) F dX2_drop_14 rfl 1 rfl ?_
    refine hx_iconst (pc := 15) F dX2_drop_15 kc_im1 ?_
    refine h2_s0 (pc := 16) F (by omega) dX2_drop_16 ?_
    refine hx_iconst (pc := 17) F dX2_drop_17 kc_i0 ?_
    exact hx_iret (pc := 18) F E rfl rfl ⟨congrArg nI (by unfold cr_drop; (repeat' split) <;> first | (exfalso; omega) | rfl | contradiction), (by unfold mf_drop; (repeat' split) <;> first | (exfalso; omega) | rfl | contradiction)⟩ dX2_drop_18
  · have hb5 : ¬ a < 8 := mf_root_0.mp h5
    refine hx_iconst (pc := 8) F dX2_drop_8 kc_im1 ?_
    exact hx_iret (pc := 9) F E rfl rfl ⟨congrArg nI (by unfold cr_drop; (repeat' split) <;> first | (exfalso; omega) | rfl | contradiction), (by unfold mf_drop; (repeat' split) <;> first | (exfalso; omega) | rfl | contradiction)⟩ dX2_drop_9
set_option maxHeartbeats 4000000 in
theorem ct_X2_refusal (l : Launch) (G : hx_G) (σ : hs_S) (r : Nat) (f : Nat) (t : Nat) (hk : r < 4294967296 ∧ f < 4294967296 ∧ t < 4294967296 ∧ mk_ref σ) : hx_cI l yX2_refusal mX2_refusal (V2 G) σ [.ref (hg_h G), .int (nI r), .int (nI f), .int (nI t)] (mr_ref σ r f t) (σ) := by
  refine hx_enterI (by decide +kernel) rfl (Nat.le_of_ble_eq_true rfl) (fun X E F => ?_)
  show hx_W X mX2_refusal (V2 G) σ 0 [(0, .ref (hg_h G)), (1, .int (nI r)), (2, .int (nI f)), (3, .int (nI t))] []
  obtain ⟨hk0, hk1, hk2, hk3⟩ := hk
  refine hx_aload_n (pc := 0) F dX2_refusal_0 rfl 0 rfl ?_
  refine hx_iload_n (pc := 1) F dX2_refusal_1 rfl 1 rfl ?_
  refine hc_X2_isRoot (pc := 2) F rfl (by decide) (ct_X2_isRoot _ G σ r hk0) (Nat.le_of_ble_eq_true rfl) dX2_refusal_2 ?_
  refine hx_if_eq (pc := 5) (tgt := 16) F (mf_root_lt _) dX2_refusal_5 (by decide) (fun h5 => ?_) (fun h5 => ?_)
  · have hb5 : ¬ r < 8 := mf_root_0.mp h5
    refine hx_iconst (pc := 16) F dX2_refusal_16 kc_im1 ?_
    exact hx_iret (pc := 17) F E rfl rfl ⟨congrArg nI (by unfold mr_ref; (repeat' split) <;> first | (exfalso; omega) | rfl | contradiction), rfl⟩ dX2_refusal_17
  · have hb5 : r < 8 := Classical.byContradiction (fun q => h5 (mf_root_0.mpr q))
    refine hx_aload_n (pc := 8) F dX2_refusal_8 rfl 0 rfl ?_
    refine hx_iload_n (pc := 9) F dX2_refusal_9 rfl 3 rfl ?_
    refine hc_X2_isRoot (pc := 10) F rfl (by decide) (ct_X2_isRoot _ G σ t hk2) (Nat.le_of_ble_eq_true rfl) dX2_refusal_10 ?_
    refine hx_if_ne (pc := 13) (tgt := 18) F (mf_root_lt _) dX2_refusal_13 (by decide) (fun h13 => ?_) (fun h13 => ?_)
    · have hb13 : t < 8 := Classical.byContradiction (fun q => h13 (mf_root_0.mpr q))
      refine hx_iload_n (pc := 18) F dX2_refusal_18 rfl 2 rfl ?_
      refine hx_if_lt (pc := 19) (tgt := 27) F (by omega) dX2_refusal_19 (by decide) (fun h19 => ?_) (fun h19 => ?_)
      · refine hx_bipush (pc := 27) F dX2_refusal_27 kc_bm2 ?_
        exact hx_iret (pc := 29) F E rfl rfl ⟨congrArg nI (by unfold mr_ref; (repeat' split) <;> first | (exfalso; omega) | rfl | contradiction), rfl⟩ dX2_refusal_29
      · refine hx_iload_n (pc := 22) F dX2_refusal_22 rfl 2 rfl ?_
        refine hx_iconst (pc := 23) F dX2_refusal_23 kc_i2 ?_
        refine hx_icmp_le (pc := 24) (tgt := 30) F (by omega) (by omega) dX2_refusal_24 (by decide) (fun h24 => ?_) (fun h24 => ?_)
        · refine hx_aload_n (pc := 30) F dX2_refusal_30 rfl 0 rfl ?_
          refine h2_g0 (pc := 31) F rfl dX2_refusal_31 ?_
          refine hx_iload_n (pc := 34) F dX2_refusal_34 rfl 1 rfl ?_
          refine h2_l0 (pc := 35) F (by omega) dX2_refusal_35 ?_
          refine hx_if_ge (pc := 36) (tgt := 44) F (mk_ref_lt hk3 hb5) dX2_refusal_36 (by decide) (fun h36 => ?_) (fun h36 => ?_)
          · refine hx_iconst (pc := 44) F dX2_refusal_44 kc_i0 ?_
            exact hx_iret (pc := 45) F E rfl rfl ⟨congrArg nI (by unfold mr_ref; (repeat' split) <;> first | (exfalso; omega) | rfl | contradiction), rfl⟩ dX2_refusal_45
          · refine hx_bipush (pc := 39) F dX2_refusal_39 kc_bm3 ?_
            refine hx_goto (pc := 41) (tgt := 45) F dX2_refusal_41 (by decide) ?_
            exact hx_iret (pc := 45) F E rfl rfl ⟨congrArg nI (by unfold mr_ref; (repeat' split) <;> first | (exfalso; omega) | rfl | contradiction), rfl⟩ dX2_refusal_45
        · refine hx_bipush (pc := 27) F dX2_refusal_27 kc_bm2 ?_
          exact hx_iret (pc := 29) F E rfl rfl ⟨congrArg nI (by unfold mr_ref; (repeat' split) <;> first | (exfalso; omega) | rfl | contradiction), rfl⟩ dX2_refusal_29
    · have hb13 : ¬ t < 8 := mf_root_0.mp h13
      refine hx_iconst (pc := 16) F dX2_refusal_16 kc_im1 ?_
      exact hx_iret (pc := 17) F E rfl rfl ⟨congrArg nI (by unfold mr_ref; (repeat' split) <;> first | (exfalso; omega) | rfl | contradiction), rfl⟩ dX2_refusal_17
set_option maxHeartbeats 4000000 in
theorem ct_X2_load (l : Launch) (G : hx_G) (σ : hs_S) (r : Nat) (f : Nat) (t : Nat) (hk : r < 4294967296 ∧ f < 4294967296 ∧ t < 4294967296 ∧ mk_ref σ) : hx_cI l yX2_load mX2_load (V2 G) σ [.ref (hg_h G), .int (nI r), .int (nI f), .int (nI t)] (mr_ref σ r f t) (mf_load σ r f t) := by
  refine hx_enterI (by decide +kernel) rfl (Nat.le_of_ble_eq_true rfl) (fun X E F => ?_)
  show hx_W X mX2_load (V2 G) σ 0 [(0, .ref (hg_h G)), (1, .int (nI r)), (2, .int (nI f)), (3, .int (nI t))] []
  obtain ⟨hk0, hk1, hk2, hk3⟩ := hk
  refine hx_aload_n (pc := 0) F dX2_load_0 rfl 0 rfl ?_
  refine hx_iload_n (pc := 1) F dX2_load_1 rfl 1 rfl ?_
  refine hx_iload_n (pc := 2) F dX2_load_2 rfl 2 rfl ?_
  refine hx_iload_n (pc := 3) F dX2_load_3 rfl 3 rfl ?_
  refine hc_X2_refusal (pc := 4) F rfl (by decide) (ct_X2_refusal _ G σ r f t ⟨hk0, hk1, hk2, hk3⟩) (Nat.le_of_ble_eq_true rfl) dX2_load_4 ?_
  refine hx_istore (pc := 7) (lv' := [(0, .ref (hg_h G)), (1, .int (nI r)), (2, .int (nI f)), (3, .int (nI t)), (4, .int (nI (mr_ref σ r f t)))]) F dX2_load_7 (by decide) [1, 2, 3, 4, 0] rfl ?_
  refine hx_iload (pc := 9) F dX2_load_9 4 rfl ?_
  refine hx_if_ge (pc := 11) (tgt := 17) F (by rcases mr_ref_c σ r f t with q | q <;> omega) dX2_load_11 (by decide) (fun h11 => ?_) (fun h11 => ?_)
  · have hz : mr_ref σ r f t = 0 := by rcases mr_ref_c σ r f t with q | q <;> omega
    obtain ⟨hr1, ht1, hf1, hr2⟩ := mr_ref_0 hk3 hz
    refine hx_aload_n (pc := 17) F dX2_load_17 rfl 0 rfl ?_
    refine h2_g0 (pc := 18) F rfl dX2_load_18 ?_
    refine hx_iload_n (pc := 21) F dX2_load_21 rfl 3 rfl ?_
    refine hx_aload_n (pc := 22) F dX2_load_22 rfl 0 rfl ?_
    refine h2_g1 (pc := 23) F rfl dX2_load_23 ?_
    refine hx_aload_n (pc := 26) F dX2_load_26 rfl 0 rfl ?_
    refine h2_g0 (pc := 27) F rfl dX2_load_27 ?_
    refine hx_iload_n (pc := 30) F dX2_load_30 rfl 1 rfl ?_
    refine h2_l0 (pc := 31) F (by omega) dX2_load_31 ?_
    refine hx_iconst (pc := 32) F dX2_load_32 kc_i3 ?_
    refine hx_imul (pc := 33) F dX2_load_33 ?_
    refine hx_iload_n (pc := 34) F dX2_load_34 rfl 2 rfl ?_
    refine hx_iadd (pc := 35) F dX2_load_35 ?_
    refine h2_l1 (pc := 36) F (by omega) dX2_load_36 ?_
    refine h2_s0 (pc := 37) F (by omega) dX2_load_37 ?_
    refine hx_iconst (pc := 38) F dX2_load_38 kc_i0 ?_
    exact hx_iret (pc := 39) F E rfl rfl ⟨congrArg nI hz.symm, Eq.symm (if_pos hz)⟩ dX2_load_39
  · have hz : ¬ mr_ref σ r f t = 0 := by omega
    refine hx_iload (pc := 14) F dX2_load_14 4 rfl ?_
    exact hx_iret (pc := 16) F E rfl rfl ⟨rfl, Eq.symm (if_neg hz : mf_load σ r f t = σ)⟩ dX2_load_16
set_option maxHeartbeats 4000000 in
theorem ct_X2_store (l : Launch) (G : hx_G) (σ : hs_S) (r : Nat) (f : Nat) (t : Nat) (hk : r < 4294967296 ∧ f < 4294967296 ∧ t < 4294967296 ∧ mk_ref σ) : hx_cI l yX2_store mX2_store (V2 G) σ [.ref (hg_h G), .int (nI r), .int (nI f), .int (nI t)] (mr_ref σ r f t) (mf_store σ r f t) := by
  refine hx_enterI (by decide +kernel) rfl (Nat.le_of_ble_eq_true rfl) (fun X E F => ?_)
  show hx_W X mX2_store (V2 G) σ 0 [(0, .ref (hg_h G)), (1, .int (nI r)), (2, .int (nI f)), (3, .int (nI t))] []
  obtain ⟨hk0, hk1, hk2, hk3⟩ := hk
  refine hx_aload_n (pc := 0) F dX2_store_0 rfl 0 rfl ?_
  refine hx_iload_n (pc := 1) F dX2_store_1 rfl 1 rfl ?_
  refine hx_iload_n (pc := 2) F dX2_store_2 rfl 2 rfl ?_
  refine hx_iload_n (pc := 3) F dX2_store_3 rfl 3 rfl ?_
  refine hc_X2_refusal (pc := 4) F rfl (by decide) (ct_X2_refusal _ G σ r f t ⟨hk0, hk1, hk2, hk3⟩) (Nat.le_of_ble_eq_true rfl) dX2_store_4 ?_
  refine hx_istore (pc := 7) (lv' := [(0, .ref (hg_h G)), (1, .int (nI r)), (2, .int (nI f)), (3, .int (nI t)), (4, .int (nI (mr_ref σ r f t)))]) F dX2_store_7 (by decide) [1, 2, 3, 4, 0] rfl ?_
  refine hx_iload (pc := 9) F dX2_store_9 4 rfl ?_
  refine hx_if_ge (pc := 11) (tgt := 17) F (by rcases mr_ref_c σ r f t with q | q <;> omega) dX2_store_11 (by decide) (fun h11 => ?_) (fun h11 => ?_)
  · have hz : mr_ref σ r f t = 0 := by rcases mr_ref_c σ r f t with q | q <;> omega
    obtain ⟨hr1, ht1, hf1, hr2⟩ := mr_ref_0 hk3 hz
    refine hx_aload_n (pc := 17) F dX2_store_17 rfl 0 rfl ?_
    refine h2_g1 (pc := 18) F rfl dX2_store_18 ?_
    refine hx_aload_n (pc := 21) F dX2_store_21 rfl 0 rfl ?_
    refine h2_g0 (pc := 22) F rfl dX2_store_22 ?_
    refine hx_iload_n (pc := 25) F dX2_store_25 rfl 1 rfl ?_
    refine h2_l0 (pc := 26) F (by omega) dX2_store_26 ?_
    refine hx_iconst (pc := 27) F dX2_store_27 kc_i3 ?_
    refine hx_imul (pc := 28) F dX2_store_28 ?_
    refine hx_iload_n (pc := 29) F dX2_store_29 rfl 2 rfl ?_
    refine hx_iadd (pc := 30) F dX2_store_30 ?_
    refine hx_aload_n (pc := 31) F dX2_store_31 rfl 0 rfl ?_
    refine h2_g0 (pc := 32) F rfl dX2_store_32 ?_
    refine hx_iload_n (pc := 35) F dX2_store_35 rfl 3 rfl ?_
    refine h2_l0 (pc := 36) F (by omega) dX2_store_36 ?_
    refine h2_s1 (pc := 37) F (by omega) dX2_store_37 ?_
    refine hx_iconst (pc := 38) F dX2_store_38 kc_i0 ?_
    exact hx_iret (pc := 39) F E rfl rfl ⟨congrArg nI hz.symm, Eq.symm (if_pos hz)⟩ dX2_store_39
  · have hz : ¬ mr_ref σ r f t = 0 := by omega
    refine hx_iload (pc := 14) F dX2_store_14 4 rfl ?_
    exact hx_iret (pc := 16) F E rfl rfl ⟨rfl, Eq.symm (if_neg hz : mf_store σ r f t = σ)⟩ dX2_store_16
set_option maxHeartbeats 4000000 in
theorem ct_X2_setPayload (l : Launch) (G : hx_G) (σ : hs_S) (r : Nat) (v : Nat) (hk : r < 4294967296 ∧ mk_ref σ) : hx_cI l yX2_setPayload mX2_setPayload (V2 G) σ [.ref (hg_h G), .int (nI r), .int (nI v)] (mr_ref σ r 0 r) (mf_setp σ r v) := by
  refine hx_enterI (by decide +kernel) rfl (Nat.le_of_ble_eq_true rfl) (fun X E F => ?_)
  show hx_W X mX2_setPayload (V2 G) σ 0 [(0, .ref (hg_h G)), (1, .int (nI r)), (2, .int (nI v))] []
  obtain ⟨hk0, hk3⟩ := hk
  refine hx_aload_n (pc := 0) F dX2_setPayload_0 rfl 0 rfl ?_
  refine hx_iload_n (pc := 1) F dX2_setPayload_1 rfl 1 rfl ?_
  refine hx_iconst (pc := 2) F dX2_setPayload_2 kc_i0 ?_
  refine hx_iload_n (pc := 3) F dX2_setPayload_3 rfl 1 rfl ?_
  refine hc_X2_refusal (pc := 4) F rfl (by decide) (ct_X2_refusal _ G σ r 0 r ⟨hk0, by decide, hk0, hk3⟩) (Nat.le_of_ble_eq_true rfl) dX2_setPayload_4 ?_
  refine hx_istore_n (pc := 7) (lv' := [(0, .ref (hg_h G)), (1, .int (nI r)), (2, .int (nI v)), (3, .int (nI (mr_ref σ r 0 r)))]) F dX2_setPayload_7 rfl (by decide) [1, 2, 3, 0] rfl ?_
  refine hx_iload_n (pc := 8) F dX2_setPayload_8 rfl 3 rfl ?_
  refine hx_if_ge (pc := 9) (tgt := 14) F (by rcases mr_ref_c σ r 0 r with q | q <;> omega) dX2_setPayload_9 (by decide) (fun h9 => ?_) (fun h9 => ?_)
  · have hz : mr_ref σ r 0 r = 0 := by rcases mr_ref_c σ r 0 r with q | q <;> omega
    obtain ⟨hr1, ht1, hf1, hr2⟩ := mr_ref_0 hk3 hz
    refine hx_aload_n (pc := 14) F dX2_setPayload_14 rfl 0 rfl ?_
    refine h2_g2 (pc := 15) F rfl dX2_setPayload_15 ?_
    refine hx_aload_n (pc := 18) F dX2_setPayload_18 rfl 0 rfl ?_
    refine h2_g0 (pc := 19) F rfl dX2_setPayload_19 ?_
    refine hx_iload_n (pc := 22) F dX2_setPayload_22 rfl 1 rfl ?_
    refine h2_l0 (pc := 23) F (by omega) dX2_setPayload_23 ?_
    refine hx_iload_n (pc := 24) F dX2_setPayload_24 rfl 2 rfl ?_
    refine h2_s2 (pc := 25) F (by omega) dX2_setPayload_25 ?_
    refine hx_iconst (pc := 26) F dX2_setPayload_26 kc_i0 ?_
    exact hx_iret (pc := 27) F E rfl rfl ⟨congrArg nI hz.symm, Eq.symm (if_pos hz)⟩ dX2_setPayload_27
  · have hz : ¬ mr_ref σ r 0 r = 0 := by omega
    refine hx_iload_n (pc := 12) F dX2_setPayload_12 rfl 3 rfl ?_
    exact hx_iret (pc := 13) F E rfl rfl ⟨rfl, Eq.symm (if_neg hz : mf_setp σ r v = σ)⟩ dX2_setPayload_13
set_option maxHeartbeats 4000000 in
theorem ct_X2_collect (l : Launch) (G : hx_G) (σ : hs_S) (_hk : True) : hx_cV l yX2_collect mX2_collect (V2 G) σ [.ref (hg_h G)] (σ) := by
  refine hx_enterV (by decide +kernel) rfl (Nat.le_of_ble_eq_true rfl) (fun X E F => ?_)
  show hx_W X mX2_collect (V2 G) σ 0 [(0, .ref (hg_h G))] []
  exact hx_vret (pc := 0) F E rfl rfl dX2_collect_0
set_option maxHeartbeats 4000000 in
theorem ct_X2_payload (l : Launch) (G : hx_G) (σ : hs_S) (r : Nat) (hk : r < 4294967296 ∧ mk_ref σ) : hx_cI l yX2_payload mX2_payload (V2 G) σ [.ref (hg_h G), .int (nI r)] (mr_pay σ r) (σ) := by
  refine hx_enterI (by decide +kernel) rfl (Nat.le_of_ble_eq_true rfl) (fun X E F => ?_)
  show hx_W X mX2_payload (V2 G) σ 0 [(0, .ref (hg_h G)), (1, .int (nI r))] []
  obtain ⟨hk0, hk3⟩ := hk
  refine hx_aload_n (pc := 0) F dX2_payload_0 rfl 0 rfl ?_
  refine hx_iload_n (pc := 1) F dX2_payload_1 rfl 1 rfl ?_
  refine hc_X2_objectOf (pc := 2) F rfl (by decide) (ct_X2_objectOf _ G σ r hk0) (Nat.le_of_ble_eq_true rfl) dX2_payload_2 ?_
  refine hx_istore_n (pc := 5) (lv' := [(0, .ref (hg_h G)), (1, .int (nI r)), (2, .int (nI (mf_obj σ r)))]) F dX2_payload_5 rfl (by decide) [1, 2, 0] rfl ?_
  refine hx_iload_n (pc := 6) F dX2_payload_6 rfl 2 rfl ?_
  refine hx_if_ge (pc := 7) (tgt := 14) F (by rcases mf_obj_b hk3 r with q | q <;> omega) dX2_payload_7 (by decide) (fun h7 => ?_) (fun h7 => ?_)
  · have ho : mf_obj σ r < 24 := by rcases mf_obj_b hk3 r with q | q <;> omega
    refine hx_aload_n (pc := 14) F dX2_payload_14 rfl 0 rfl ?_
    refine h2_g2 (pc := 15) F rfl dX2_payload_15 ?_
    refine hx_iload_n (pc := 18) F dX2_payload_18 rfl 2 rfl ?_
    refine h2_l2 (pc := 19) F (by omega) dX2_payload_19 ?_
    exact hx_iret (pc := 20) F E rfl rfl ⟨congrArg nI (by unfold mr_pay; (repeat' split) <;> first | (exfalso; omega) | rfl | contradiction), rfl⟩ dX2_payload_20
  · refine hx_iconst (pc := 10) F dX2_payload_10 kc_i0 ?_
    refine hx_goto (pc := 11) (tgt := 20) F dX2_payload_11 (by decide) ?_
    exact hx_iret (pc := 20) F E rfl rfl ⟨congrArg nI (by unfold mr_pay; (repeat' split) <;> first | (exfalso; omega) | rfl | contradiction), rfl⟩ dX2_payload_20
set_option maxHeartbeats 4000000 in
theorem ct_X2_held (l : Launch) (G : hx_G) (σ : hs_S) (r : Nat) (hk : r < 4294967296 ∧ mk_ref σ) : hx_cI l yX2_held mX2_held (V2 G) σ [.ref (hg_h G), .int (nI r)] (mr_held σ r) (σ) := by
  refine hx_enterI (by decide +kernel) rfl (Nat.le_of_ble_eq_true rfl) (fun X E F => ?_)
  show hx_W X mX2_held (V2 G) σ 0 [(0, .ref (hg_h G)), (1, .int (nI r))] []
  obtain ⟨hk0, hk3⟩ := hk
  refine hx_aload_n (pc := 0) F dX2_held_0 rfl 0 rfl ?_
  refine hx_iload_n (pc := 1) F dX2_held_1 rfl 1 rfl ?_
  refine hc_X2_objectOf (pc := 2) F rfl (by decide) (ct_X2_objectOf _ G σ r hk0) (Nat.le_of_ble_eq_true rfl) dX2_held_2 ?_
  refine hx_if_lt (pc := 5) (tgt := 12) F (by rcases mf_obj_b hk3 r with q | q <;> omega) dX2_held_5 (by decide) (fun h5 => ?_) (fun h5 => ?_)
  · refine hx_iconst (pc := 12) F dX2_held_12 kc_i0 ?_
    exact hx_iret (pc := 13) F E rfl (by decide +kernel) ⟨congrArg nI (by unfold mr_held; (repeat' split) <;> first | (exfalso; omega) | rfl | contradiction), rfl⟩ dX2_held_13
  · refine hx_iconst (pc := 8) F dX2_held_8 kc_i1 ?_
    refine hx_goto (pc := 9) (tgt := 13) F dX2_held_9 (by decide) ?_
    exact hx_iret (pc := 13) F E rfl (by decide +kernel) ⟨congrArg nI (by unfold mr_held; (repeat' split) <;> first | (exfalso; omega) | rfl | contradiction), rfl⟩ dX2_held_13
set_option maxHeartbeats 4000000 in
theorem ct_X2_same (l : Launch) (G : hx_G) (σ : hs_S) (a : Nat) (b : Nat) (hk : a < 4294967296 ∧ b < 4294967296 ∧ mk_ref σ) : hx_cI l yX2_same mX2_same (V2 G) σ [.ref (hg_h G), .int (nI a), .int (nI b)] (mr_same σ a b) (σ) := by
  refine hx_enterI (by decide +kernel) rfl (Nat.le_of_ble_eq_true rfl) (fun X E F => ?_)
  show hx_W X mX2_same (V2 G) σ 0 [(0, .ref (hg_h G)), (1, .int (nI a)), (2, .int (nI b))] []
  obtain ⟨hk0, hk1, hk3⟩ := hk
  refine hx_aload_n (pc := 0) F dX2_same_0 rfl 0 rfl ?_
  refine hx_iload_n (pc := 1) F dX2_same_1 rfl 1 rfl ?_
  refine hc_X2_held (pc := 2) F rfl (by decide) (ct_X2_held _ G σ a ⟨hk0, hk3⟩) (Nat.le_of_ble_eq_true rfl) dX2_same_2 ?_
  refine hx_if_eq (pc := 5) (tgt := 35) F (mr_held_lt _ _) dX2_same_5 (by decide) (fun h5 => ?_) (fun h5 => ?_)
  · refine hx_iconst (pc := 35) F dX2_same_35 kc_i0 ?_
    exact hx_iret (pc := 36) F E rfl (by decide +kernel) ⟨congrArg nI (by unfold mr_same; (repeat' split) <;> first | (exfalso; omega) | rfl | contradiction), rfl⟩ dX2_same_36
  · refine hx_aload_n (pc := 8) F dX2_same_8 rfl 0 rfl ?_
    refine hx_iload_n (pc := 9) F dX2_same_9 rfl 2 rfl ?_
    refine hc_X2_held (pc := 10) F rfl (by decide) (ct_X2_held _ G σ b ⟨hk1, hk3⟩) (Nat.le_of_ble_eq_true rfl) dX2_same_10 ?_
    refine hx_if_eq (pc := 13) (tgt := 35) F (mr_held_lt _ _) dX2_same_13 (by decide) (fun h13 => ?_) (fun h13 => ?_)
    · refine hx_iconst (pc := 35) F dX2_same_35 kc_i0 ?_
      exact hx_iret (pc := 36) F E rfl (by decide +kernel) ⟨congrArg nI (by unfold mr_same; (repeat' split) <;> first | (exfalso; omega) | rfl | contradiction), rfl⟩ dX2_same_36
    · obtain ⟨ha1, ha2⟩ := mr_held_1 hk3 h5
      obtain ⟨hb1, hb2⟩ := mr_held_1 hk3 h13
      refine hx_aload_n (pc := 16) F dX2_same_16 rfl 0 rfl ?_
      refine h2_g0 (pc := 17) F rfl dX2_same_17 ?_
      refine hx_iload_n (pc := 20) F dX2_same_20 rfl 1 rfl ?_
      refine h2_l0 (pc := 21) F (by omega) dX2_same_21 ?_
      refine hx_aload_n (pc := 22) F dX2_same_22 rfl 0 rfl ?_
      refine h2_g0 (pc := 23) F rfl dX2_same_23 ?_
      refine hx_iload_n (pc := 26) F dX2_same_26 rfl 2 rfl ?_
      refine h2_l0 (pc := 27) F (by omega) dX2_same_27 ?_
      refine hx_icmp_ne (pc := 28) (tgt := 35) F (by omega) (by omega) dX2_same_28 (by decide) (fun h28 => ?_) (fun h28 => ?_)
      · refine hx_iconst (pc := 35) F dX2_same_35 kc_i0 ?_
        exact hx_iret (pc := 36) F E rfl (by decide +kernel) ⟨congrArg nI (by unfold mr_same; (repeat' split) <;> first | (exfalso; omega) | rfl | contradiction), rfl⟩ dX2_same_36
      · refine hx_iconst (pc := 31) F dX2_same_31 kc_i1 ?_
        refine hx_goto (pc := 32) (tgt := 36) F dX2_same_32 (by decide) ?_
        exact hx_iret (pc := 36) F E rfl (by decide +kernel) ⟨congrArg nI (by unfold mr_same; (repeat' split) <;> first | (exfalso; omega) | rfl | contradiction), rfl⟩ dX2_same_36
set_option maxHeartbeats 4000000 in
theorem ct_X2_reachableFrom (l : Launch) (G : hx_G) (σ : hs_S) (r : Nat) (hk : r < 4294967296 ∧ mk_rf σ r) : hx_cI l yX2_reachableFrom mX2_reachableFrom (V2 G) σ [.ref (hg_h G), .int (nI r)] (mr_rf σ r) (mf_rf σ r) := by
  refine hx_enterI (by decide +kernel) rfl (Nat.le_of_ble_eq_true rfl) (fun X E F => ?_)
  show hx_W X mX2_reachableFrom (V2 G) σ 0 [(0, .ref (hg_h G)), (1, .int (nI r))] []
  obtain ⟨hk0, hk3, hk4⟩ := hk
  refine hx_aload_n (pc := 0) F dX2_reachableFrom_0 rfl 0 rfl ?_
  refine hx_iload_n (pc := 1) F dX2_reachableFrom_1 rfl 1 rfl ?_
  refine hc_X2_held (pc := 2) F rfl (by decide) (ct_X2_held _ G σ r ⟨hk0, hk3⟩) (Nat.le_of_ble_eq_true rfl) dX2_reachableFrom_2 ?_
  refine hx_if_ne (pc := 5) (tgt := 10) F (mr_held_lt _ _) dX2_reachableFrom_5 (by decide) (fun h5 => ?_) (fun h5 => ?_)
  · obtain ⟨hk5, hk6⟩ := hk4 h5
    refine hx_aload_n (pc := 10) F dX2_reachableFrom_10 rfl 0 rfl ?_
    refine hx_iload_n (pc := 11) F dX2_reachableFrom_11 rfl 1 rfl ?_
    refine hc_X2_spread (pc := 12) F rfl (by decide) (ct_X2_spread _ G σ r hk5) (Nat.le_of_ble_eq_true rfl) dX2_reachableFrom_12 ?_
    refine hx_aload_n (pc := 15) F dX2_reachableFrom_15 rfl 0 rfl ?_
    refine hc_X2_found (pc := 16) F rfl (by decide) (ct_X2_found _ G (mf_spread σ r)  hk6) (Nat.le_of_ble_eq_true rfl) dX2_reachableFrom_16 ?_
    exact hx_iret (pc := 19) F E rfl rfl ⟨congrArg nI (by unfold mr_rf; (repeat' split) <;> first | (exfalso; omega) | rfl | contradiction), (by unfold mf_rf; (repeat' split) <;> first | (exfalso; omega) | rfl | contradiction)⟩ dX2_reachableFrom_19
  · refine hx_iconst (pc := 8) F dX2_reachableFrom_8 kc_i0 ?_
    exact hx_iret (pc := 9) F E rfl rfl ⟨congrArg nI (by unfold mr_rf; (repeat' split) <;> first | (exfalso; omega) | rfl | contradiction), (by unfold mf_rf; (repeat' split) <;> first | (exfalso; omega) | rfl | contradiction)⟩ dX2_reachableFrom_9
set_option maxHeartbeats 4000000 in
theorem ct_X2_distance (l : Launch) (G : hx_G) (σ : hs_S) (a : Nat) (b : Nat) (hk : a < 4294967296 ∧ b < 4294967296 ∧ mk_dist σ a b) : hx_cI l yX2_distance mX2_distance (V2 G) σ [.ref (hg_h G), .int (nI a), .int (nI b)] (mr_dist σ a b) (mf_dist σ a b) := by
  refine hx_enterI (by decide +kernel) rfl (Nat.le_of_ble_eq_true rfl) (fun X E F => ?_)
  show hx_W X mX2_distance (V2 G) σ 0 [(0, .ref (hg_h G)), (1, .int (nI a)), (2, .int (nI b))] []
  obtain ⟨hk0, hk1, hk3, hk4⟩ := hk
  refine hx_aload_n (pc := 0) F dX2_distance_0 rfl 0 rfl ?_
  refine hx_iload_n (pc := 1) F dX2_distance_1 rfl 1 rfl ?_
  refine hc_X2_held (pc := 2) F rfl (by decide) (ct_X2_held _ G σ a ⟨hk0, hk3⟩) (Nat.le_of_ble_eq_true rfl) dX2_distance_2 ?_
  refine hx_if_eq (pc := 5) (tgt := 16) F (mr_held_lt _ _) dX2_distance_5 (by decide) (fun h5 => ?_) (fun h5 => ?_)
  · refine hx_bipush (pc := 16) F dX2_distance_16 kc_bm3 ?_
    exact hx_iret (pc := 18) F E rfl rfl ⟨congrArg nI (by unfold mr_dist; (repeat' split) <;> first | (exfalso; omega) | rfl | contradiction), (by unfold mf_dist; (repeat' split) <;> first | (exfalso; omega) | rfl | contradiction)⟩ dX2_distance_18
  · refine hx_aload_n (pc := 8) F dX2_distance_8 rfl 0 rfl ?_
    refine hx_iload_n (pc := 9) F dX2_distance_9 rfl 2 rfl ?_
    refine hc_X2_held (pc := 10) F rfl (by decide) (ct_X2_held _ G σ b ⟨hk1, hk3⟩) (Nat.le_of_ble_eq_true rfl) dX2_distance_10 ?_
    refine hx_if_ne (pc := 13) (tgt := 19) F (mr_held_lt _ _) dX2_distance_13 (by decide) (fun h13 => ?_) (fun h13 => ?_)
    · obtain ⟨hb1, hb2⟩ := mr_held_1 hk3 h13
      refine hx_aload_n (pc := 19) F dX2_distance_19 rfl 0 rfl ?_
      refine hx_iload_n (pc := 20) F dX2_distance_20 rfl 1 rfl ?_
      refine hc_X2_spread (pc := 21) F rfl (by decide) (ct_X2_spread _ G σ a (hk4 h5 h13).1) (Nat.le_of_ble_eq_true rfl) dX2_distance_21 ?_
      refine hx_gen (fun ω hω => ?_)
      have hq1 : ω 0 b < 24 ∧ ω 3 (ω 0 b) ≤ 1000 := by rw [hω]; exact (hk4 h5 h13).2
      obtain ⟨hq1, hq2⟩ := hq1
      refine hx_aload_n (pc := 24) F dX2_distance_24 rfl 0 rfl ?_
      refine h2_g3 (pc := 25) F rfl dX2_distance_25 ?_
      refine hx_aload_n (pc := 28) F dX2_distance_28 rfl 0 rfl ?_
      refine h2_g0 (pc := 29) F rfl dX2_distance_29 ?_
      refine hx_iload_n (pc := 32) F dX2_distance_32 rfl 2 rfl ?_
      refine h2_l0 (pc := 33) F (by omega) dX2_distance_33 ?_
      refine h2_l3 (pc := 34) F (by omega) dX2_distance_34 ?_
      refine hx_sipush (pc := 35) F dX2_distance_35 kc_s1000 ?_
      refine hx_icmp_ge (pc := 38) (tgt := 55) F (by omega) (by omega) dX2_distance_38 (by decide) (fun h38 => ?_) (fun h38 => ?_)
      · refine hx_bipush (pc := 55) F dX2_distance_55 kc_bm3 ?_
        exact hx_iret (pc := 57) F E rfl rfl ⟨congrArg nI (by unfold mr_dist mf_dv; rw [if_neg h5, if_neg h13, ← hω, if_neg (by omega)]), by unfold mf_dist; rw [if_neg h5, if_neg h13, hω]⟩ dX2_distance_57
      · refine hx_aload_n (pc := 41) F dX2_distance_41 rfl 0 rfl ?_
        refine h2_g3 (pc := 42) F rfl dX2_distance_42 ?_
        refine hx_aload_n (pc := 45) F dX2_distance_45 rfl 0 rfl ?_
        refine h2_g0 (pc := 46) F rfl dX2_distance_46 ?_
        refine hx_iload_n (pc := 49) F dX2_distance_49 rfl 2 rfl ?_
        refine h2_l0 (pc := 50) F (by omega) dX2_distance_50 ?_
        refine h2_l3 (pc := 51) F (by omega) dX2_distance_51 ?_
        refine hx_goto (pc := 52) (tgt := 57) F dX2_distance_52 (by decide) ?_
        exact hx_iret (pc := 57) F E rfl rfl ⟨congrArg nI (by unfold mr_dist mf_dv; rw [if_neg h5, if_neg h13, ← hω, if_pos h38]), by unfold mf_dist; rw [if_neg h5, if_neg h13, hω]⟩ dX2_distance_57
    · refine hx_bipush (pc := 16) F dX2_distance_16 kc_bm3 ?_
      exact hx_iret (pc := 18) F E rfl rfl ⟨congrArg nI (by unfold mr_dist; (repeat' split) <;> first | (exfalso; omega) | rfl | contradiction), (by unfold mf_dist; (repeat' split) <;> first | (exfalso; omega) | rfl | contradiction)⟩ dX2_distance_18
set_option maxHeartbeats 4000000 in
theorem ct_X2_sum (l : Launch) (G : hx_G) (σ : hs_S) (hk : mk_sum σ) : hx_cI l yX2_sum mX2_sum (V2 G) σ [.ref (hg_h G)] (mr_sum σ) (mf_reach σ) := by
  refine hx_enterI (by decide +kernel) rfl (Nat.le_of_ble_eq_true rfl) (fun X E F => ?_)
  show hx_W X mX2_sum (V2 G) σ 0 [(0, .ref (hg_h G))] []
  obtain ⟨hk1, hk6⟩ := hk
  refine hx_aload_n (pc := 0) F dX2_sum_0 rfl 0 rfl ?_
  refine hx_iconst (pc := 1) F dX2_sum_1 kc_im1 ?_
  refine hc_X2_spread (pc := 2) F rfl (by decide) (ct_X2_spread _ G σ 4294967295 hk1) (Nat.le_of_ble_eq_true rfl) dX2_sum_2 ?_
  refine hx_gen (fun ω hω => ?_)
  have hw : ω = mf_reach σ := hω
  rw [← hw] at hk6
  refine hx_iconst (pc := 5) F dX2_sum_5 kc_i0 ?_
  refine hx_istore_n (pc := 6) (lv' := [(0, .ref (hg_h G)), (1, .int (nI 0))]) F dX2_sum_6 rfl (by decide) [1, 0] rfl ?_
  refine hx_iconst (pc := 7) F dX2_sum_7 kc_i0 ?_
  refine hx_istore_n (pc := 8) (lv' := [(0, .ref (hg_h G)), (1, .int (nI 0)), (2, .int (nI 0))]) F dX2_sum_8 rfl (by decide) [1, 2, 0] rfl ?_
  have L9 : ∀ (n9 : Nat) (o : Nat) (c : Nat), o + n9 = 24 → it_f (mf_su ω) n9 o c = mr_sum σ → hx_W X mX2_sum (V2 G) ω 9 [(0, .ref (hg_h G)), (1, .int (nI c)), (2, .int (nI o))] [] := by
    intro n9
    induction n9 with
    | zero =>
      intro o c hi9 hf9
      have hf9 : c = mr_sum σ := hf9
      refine hx_iload_n (pc := 9) F dX2_sum_9 rfl 2 rfl ?_
      refine hx_bipush (pc := 10) F dX2_sum_10 kc_b24 ?_
      refine hx_icmp_ge (pc := 12) (tgt := 42) F (by omega) (by omega) dX2_sum_12 (by decide) (fun h12 => ?_) (fun h12 => absurd h12 (by omega))
      refine hx_iload_n (pc := 42) F dX2_sum_42 rfl 1 rfl ?_
      exact hx_iret (pc := 43) F E rfl rfl ⟨congrArg nI hf9, hw⟩ dX2_sum_43
    | succ n9 ih9 =>
      intro o c hi9 hf9
      have hf9 : it_f (mf_su ω) n9 (o + 1) (mf_su ω o c) = mr_sum σ := hf9
      have hq := hk6 o (by omega)
      refine hx_iload_n (pc := 9) F dX2_sum_9 rfl 2 rfl ?_
      refine hx_bipush (pc := 10) F dX2_sum_10 kc_b24 ?_
      refine hx_icmp_ge (pc := 12) (tgt := 42) F (by omega) (by omega) dX2_sum_12 (by decide) (fun h12 => absurd h12 (by omega)) (fun h12 => ?_)
      refine hx_aload_n (pc := 15) F dX2_sum_15 rfl 0 rfl ?_
      refine h2_g3 (pc := 16) F rfl dX2_sum_16 ?_
      refine hx_iload_n (pc := 19) F dX2_sum_19 rfl 2 rfl ?_
      refine h2_l3 (pc := 20) F (by omega) dX2_sum_20 ?_
      refine hx_sipush (pc := 21) F dX2_sum_21 kc_s1000 ?_
      refine hx_icmp_ge (pc := 24) (tgt := 36) F (by omega) (by omega) dX2_sum_24 (by decide) (fun h24 => ?_) (fun h24 => ?_)
      · refine hx_iinc (pc := 36) (lv' := [(0, .ref (hg_h G)), (1, .int (nI c)), (2, .int (nI (o + 1)))]) F dX2_sum_36 2 rfl (hx_inc1 _) (by decide) [1, 2, 0] rfl ?_
        refine hx_goto (pc := 39) (tgt := 9) F dX2_sum_39 (by decide) ?_
        have e9 : mf_su ω o c = c := (by unfold mf_su; (repeat' split) <;> first | (exfalso; omega) | rfl | contradiction)
        rw [e9] at hf9
        exact ih9 (o + 1) _ (by omega) hf9
      · refine hx_iload_n (pc := 27) F dX2_sum_27 rfl 1 rfl ?_
        refine hx_aload_n (pc := 28) F dX2_sum_28 rfl 0 rfl ?_
        refine h2_g2 (pc := 29) F rfl dX2_sum_29 ?_
        refine hx_iload_n (pc := 32) F dX2_sum_32 rfl 2 rfl ?_
        refine h2_l2 (pc := 33) F (by omega) dX2_sum_33 ?_
        refine hx_iadd (pc := 34) F dX2_sum_34 ?_
        refine hx_istore_n (pc := 35) (lv' := [(0, .ref (hg_h G)), (1, .int (nI (c + (ω 2 o)))), (2, .int (nI o))]) F dX2_sum_35 rfl (by decide) [1, 0, 2] rfl ?_
        refine hx_iinc (pc := 36) (lv' := [(0, .ref (hg_h G)), (1, .int (nI (c + (ω 2 o)))), (2, .int (nI (o + 1)))]) F dX2_sum_36 2 rfl (hx_inc1 _) (by decide) [1, 2, 0] rfl ?_
        refine hx_goto (pc := 39) (tgt := 9) F dX2_sum_39 (by decide) ?_
        have e9 : mf_su ω o c = c + (ω 2 o) := (by unfold mf_su; (repeat' split) <;> first | (exfalso; omega) | rfl | contradiction)
        rw [e9] at hf9
        exact ih9 (o + 1) _ (by omega) hf9
  exact L9 24 0 0 (by omega) (by rw [hw]; rfl)
end
section
set_option maxRecDepth 100000
-- ===== counted loops =====
theorem it_inv {α : Type} {f : Nat → α → α} {k : Nat → α → Prop} (I : Nat → α → Prop) {N : Nat} (step : ∀ i a, i < N → I i a → k i a ∧ I (i + 1) (f i a)) : ∀ n i a, i + n = N → I i a → it_k k f n i a ∧ I N (it_f f n i a) := by
  intro n
  induction n with
  | zero =>
    intro i a hi h
    have e : i = N := by omega
    subst e
    exact ⟨trivial, h⟩
  | succ n ih =>
    intro i a hi h
    obtain ⟨h1, h2⟩ := step i a (by omega) h
    obtain ⟨h3, h4⟩ := ih (i + 1) (f i a) (by omega) h2
    exact ⟨⟨h1, h3⟩, h4⟩
theorem it_inv0 {α : Type} {f : Nat → α → α} (I : Nat → α → Prop) {N : Nat} (step : ∀ i a, i < N → I i a → I (i + 1) (f i a)) (a : α) (h : I 0 a) : I N (it_f f N 0 a) :=
  (it_inv (k := fun _ _ => True) I (fun i a hi h => ⟨trivial, step i a hi h⟩) N 0 a (by omega) h).2
theorem it_invK {α : Type} {f : Nat → α → α} {k : Nat → α → Prop} (I : Nat → α → Prop) {N : Nat} (step : ∀ i a, i < N → I i a → k i a ∧ I (i + 1) (f i a)) (a : α) (h : I 0 a) : it_k k f N 0 a ∧ I N (it_f f N 0 a) :=
  it_inv I step N 0 a (by omega) h
-- ===== reading a picture that was written =====
theorem hs_rd (σ : hs_S) (k j v k' j' : Nat) : hs_st σ k j v k' j' = if k' = k then (if j' = j then v else σ k' j') else σ k' j' := rfl
theorem hs_fn (σ : hs_S) {k : Nat} (j v : Nat) {k' : Nat} (h : k' ≠ k) : hs_st σ k j v k' = σ k' := by
  funext j'
  simp [hs_st, h]
-- ===== pigeons =====
theorem pg_nd {q : Nat} {Q : Nat → Nat} (hd : ∀ j k, j < k → k < q → Q j ≠ Q k) : ((List.range q).map Q).Nodup := by
  rw [List.nodup_iff_pairwise_ne, List.pairwise_map]
  exact List.Pairwise.imp_of_mem (fun {a b} _ hb hab => hd a b hab (List.mem_range.mp hb)) List.pairwise_lt_range
theorem pg_le {q N : Nat} {Q : Nat → Nat} (hb : ∀ j, j < q → Q j < N) (hd : ∀ j k, j < k → k < q → Q j ≠ Q k) : q ≤ N := by
  have h2 := (pg_nd hd).length_le_of_subset (l₂ := List.range N) (fun x hx => by
    obtain ⟨j, hj, rfl⟩ := List.mem_map.mp hx
    exact List.mem_range.mpr (hb j (List.mem_range.mp hj)))
  simpa using h2
theorem pg_lt {q N : Nat} {Q : Nat → Nat} (hb : ∀ j, j < q → Q j < N) (hd : ∀ j k, j < k → k < q → Q j ≠ Q k) {x : Nat} (hx : x < N) (hn : ∀ j, j < q → Q j ≠ x) : q < N := by
  have h1 := pg_le (q := q + 1) (N := N) (Q := fun j => if j < q then Q j else x) (fun j _ => by
      by_cases h : j < q
      · simp only [h, if_true]; exact hb j h
      · simp only [h, if_false]; exact hx) (fun j k hjk hk => by
      have hj : j < q := by omega
      by_cases h : k < q
      · simp only [h, hj, if_true]; exact hd j k hjk h
      · simp only [h, hj, if_true, if_false]; exact hn j hj)
  omega
-- ===== graphs: roots, fields, payloads; a reference is a node and 1, or 0 =====
abbrev gr_G : Type := (Nat → Nat) × (Nat → Nat → Nat) × (Nat → Nat)
def gr_c (σ : hs_S) : gr_G := (σ 1, fun s f => σ 4 (s * 3 + f), σ 3)
def gr_e (q : Nat) : Nat := if q = 4294967295 then 0 else q + 1
def gr_m (τ : hs_S) : gr_G := (fun r => gr_e (τ 0 r), fun p f => gr_e (τ 1 (p * 3 + f)), τ 2)
/-- a way of n fields from a root of Z -/
def gr_w (g : gr_G) (Z : Nat → Prop) : Nat → Nat → Prop
  | 0, s => ∃ r, r < 8 ∧ Z r ∧ g.1 r = s + 1
  | n + 1, s => ∃ t f, gr_w g Z n t ∧ f < 3 ∧ g.2.1 t f = s + 1
abbrev gr_all : Nat → Prop := fun _ => True
theorem gr_w_all {g : gr_G} {Z : Nat → Prop} : ∀ {n s : Nat}, gr_w g Z n s → gr_w g gr_all n s := by
  intro n
  induction n with
  | zero =>
    intro s h
    obtain ⟨r, h1, h2, h3⟩ := h
    exact ⟨r, h1, trivial, h3⟩
  | succ n ih =>
    intro s h
    obtain ⟨t, f, h1, h2, h3⟩ := h
    exact ⟨t, f, ih h1, h2, h3⟩
-- ===== two graphs alike =====
def gr_rr (ρ : Nat → Nat → Prop) (a b : Nat) : Prop := (a = 0 ∧ b = 0) ∨ ∃ s p, a = s + 1 ∧ b = p + 1 ∧ ρ s p
def gr_b (ρ : Nat → Nat → Prop) (g h : gr_G) : Prop :=
  (∀ s p q, ρ s p → ρ s q → p = q) ∧ (∀ s t p, ρ s p → ρ t p → s = t) ∧ (∀ r, r < 8 → gr_rr ρ (g.1 r) (h.1 r)) ∧ (∀ s p, ρ s p → g.2.2 s = h.2.2 p ∧ ∀ f, f < 3 → gr_rr ρ (g.2.1 s f) (h.2.1 p f))
theorem gr_rr_l {ρ : Nat → Nat → Prop} {a b s : Nat} (h : gr_rr ρ a b) (ha : a = s + 1) : ∃ p, b = p + 1 ∧ ρ s p := by
  rcases h with ⟨h1, _⟩ | ⟨s', p, h1, h2, h3⟩
  · omega
  · have e : s' = s := by omega
    subst e
    exact ⟨p, h2, h3⟩
theorem gr_rr_r {ρ : Nat → Nat → Prop} {a b p : Nat} (h : gr_rr ρ a b) (hb : b = p + 1) : ∃ s, a = s + 1 ∧ ρ s p := by
  rcases h with ⟨_, h1⟩ | ⟨s, p', h1, h2, h3⟩
  · omega
  · have e : p' = p := by omega
    subst e
    exact ⟨s, h1, h3⟩
theorem gr_rr_0 {ρ : Nat → Nat → Prop} {a b : Nat} (h : gr_rr ρ a b) : a = 0 ↔ b = 0 := by
  rcases h with ⟨h1, h2⟩ | ⟨s, p, h1, h2, h3⟩
  · exact ⟨fun _ => h2, fun _ => h1⟩
  · constructor <;> omega
theorem gr_rr_mono {ρ κ : Nat → Nat → Prop} {a b : Nat} (h : gr_rr ρ a b) (hm : ∀ s p, a = s + 1 → b = p + 1 → ρ s p → κ s p) : gr_rr κ a b := by
  rcases h with h | ⟨s, p, h1, h2, h3⟩
  · exact Or.inl h
  · exact Or.inr ⟨s, p, h1, h2, hm s p h1 h2 h3⟩
theorem gr_b_w {ρ : Nat → Nat → Prop} {g h : gr_G} (B : gr_b ρ g h) {Z : Nat → Prop} : ∀ {n s : Nat}, gr_w g Z n s → ∃ p, ρ s p ∧ gr_w h Z n p := by
  intro n
  induction n with
  | zero =>
    intro s hw
    obtain ⟨r, h1, h2, h3⟩ := hw
    obtain ⟨p, h4, h5⟩ := gr_rr_l (B.2.2.1 r h1) h3
    exact ⟨p, h5, r, h1, h2, h4⟩
  | succ n ih =>
    intro s hw
    obtain ⟨t, f, h1, h2, h3⟩ := hw
    obtain ⟨q, h4, h5⟩ := ih h1
    obtain ⟨p, h6, h7⟩ := gr_rr_l ((B.2.2.2 t q h4).2 f h2) h3
    exact ⟨p, h7, q, f, h5, h2, h6⟩
theorem gr_b_v {ρ : Nat → Nat → Prop} {g h : gr_G} (B : gr_b ρ g h) {Z : Nat → Prop} : ∀ {n p : Nat}, gr_w h Z n p → ∃ s, ρ s p ∧ gr_w g Z n s := by
  intro n
  induction n with
  | zero =>
    intro p hw
    obtain ⟨r, h1, h2, h3⟩ := hw
    obtain ⟨s, h4, h5⟩ := gr_rr_r (B.2.2.1 r h1) h3
    exact ⟨s, h5, r, h1, h2, h4⟩
  | succ n ih =>
    intro p hw
    obtain ⟨q, f, h1, h2, h3⟩ := hw
    obtain ⟨t, h4, h5⟩ := ih h1
    obtain ⟨s, h6, h7⟩ := gr_rr_r ((B.2.2.2 t q h4).2 f h2) h3
    exact ⟨s, h7, t, f, h5, h2, h6⟩
theorem gr_b_wp {ρ : Nat → Nat → Prop} {g h : gr_G} (B : gr_b ρ g h) {Z : Nat → Prop} {n s p : Nat} (hw : gr_w g Z n s) (hr : ρ s p) : gr_w h Z n p := by
  obtain ⟨q, h1, h2⟩ := gr_b_w B hw
  rw [B.1 s p q hr h1]
  exact h2
theorem gr_b_vp {ρ : Nat → Nat → Prop} {g h : gr_G} (B : gr_b ρ g h) {Z : Nat → Prop} {n s p : Nat} (hw : gr_w h Z n p) (hr : ρ s p) : gr_w g Z n s := by
  obtain ⟨t, h1, h2⟩ := gr_b_v B hw
  rw [B.2.1 s t p hr h1]
  exact h2
theorem gr_rr_trans {ρ κ : Nat → Nat → Prop} {a b c : Nat} (h1 : gr_rr ρ a b) (h2 : gr_rr κ b c) : gr_rr (fun s q => ∃ p, ρ s p ∧ κ p q) a c := by
  rcases h1 with ⟨h3, h4⟩ | ⟨s, p, h3, h4, h5⟩
  · exact Or.inl ⟨h3, (gr_rr_0 h2).mp h4⟩
  · obtain ⟨q, h6, h7⟩ := gr_rr_l h2 h4
    exact Or.inr ⟨s, q, h3, h6, p, h5, h7⟩
theorem gr_b_trans {ρ κ : Nat → Nat → Prop} {g h k : gr_G} (B : gr_b ρ g h) (C : gr_b κ h k) : gr_b (fun s q => ∃ p, ρ s p ∧ κ p q) g k := by
  refine ⟨?_, ?_, ?_, ?_⟩
  · rintro s q q' ⟨p, h1, h2⟩ ⟨p', h3, h4⟩
    have e := B.1 s p p' h1 h3
    subst e
    exact C.1 p q q' h2 h4
  · rintro s t q ⟨p, h1, h2⟩ ⟨p', h3, h4⟩
    have e := C.2.1 p p' q h2 h4
    subst e
    exact B.2.1 s t p h1 h3
  · intro r hr
    exact gr_rr_trans (B.2.2.1 r hr) (C.2.2.1 r hr)
  · rintro s q ⟨p, h1, h2⟩
    obtain ⟨h3, h4⟩ := B.2.2.2 s p h1
    obtain ⟨h5, h6⟩ := C.2.2.2 p q h2
    exact ⟨h3.trans h5, fun f hf => gr_rr_trans (h4 f hf) (h6 f hf)⟩
/-- what is reached alone -/
def gr_on (g : gr_G) (s : Nat) : Prop := ∃ n, gr_w g gr_all n s
theorem gr_b_on {ρ : Nat → Nat → Prop} {g h : gr_G} (B : gr_b ρ g h) : gr_b (fun s p => ρ s p ∧ gr_on g s) g h := by
  refine ⟨fun s p q h1 h2 => B.1 s p q h1.1 h2.1, fun s t p h1 h2 => B.2.1 s t p h1.1 h2.1, fun r hr => ?_, fun s p h1 => ⟨(B.2.2.2 s p h1.1).1, fun f hf => ?_⟩⟩
  · exact gr_rr_mono (B.2.2.1 r hr) (fun s p h1 _ h3 => ⟨h3, 0, r, hr, trivial, h1⟩)
  · obtain ⟨n, hn⟩ := h1.2
    exact gr_rr_mono ((B.2.2.2 s p h1.1).2 f hf) (fun t q h2 _ h4 => ⟨h4, n + 1, s, f, hn, hf, h2⟩)
-- ===== the class's walk =====
/-- the references that a walk meets are slots -/
def gr_fit (g : gr_G) : Prop := (∀ r, r < 8 → g.1 r ≤ 64) ∧ ∀ s, gr_on g s → ∀ f, f < 3 → g.2.1 s f ≤ 64
/-- all but the walk's own cells -/
def wk_f (υ υ' : hs_S) : Prop := ∀ k, k ≠ 13 → k ≠ 14 → k ≠ 15 → υ' k = υ k
def wk_c (g : gr_G) (Z : Nat → Prop) (υ : hs_S) : Prop :=
  (∀ j, j < υ 15 0 → υ 14 j < 64 ∧ υ 13 (υ 14 j) ≤ j) ∧ (∀ j k, j < k → k < υ 15 0 → υ 14 j ≠ υ 14 k ∧ υ 13 (υ 14 j) ≤ υ 13 (υ 14 k)) ∧ (∀ s, s < 64 → υ 13 s < 2147483648 → gr_w g Z (υ 13 s) s ∧ ∃ j, j < υ 15 0 ∧ υ 14 j = s) ∧ (∀ s, s < 64 → υ 13 s < 4294967296)
def wk_d (d : Nat) (υ : hs_S) : Prop := ∀ j, j < υ 15 0 → υ 13 (υ 14 j) ≤ d
/-- the walk goes on: what was seen stays -/
def wk_x (υ υ' : hs_S) : Prop := υ 15 0 ≤ υ' 15 0 ∧ (∀ j, j < υ 15 0 → υ' 14 j = υ 14 j) ∧ (∀ s, υ 13 s < 2147483648 → υ' 13 s = υ 13 s)
theorem wk_f_rf (υ : hs_S) : wk_f υ υ := fun _ _ _ _ => rfl
theorem wk_f_tr {a b c : hs_S} (h : wk_f a b) (h' : wk_f b c) : wk_f a c := fun k h1 h2 h3 => (h' k h1 h2 h3).trans (h k h1 h2 h3)
theorem wk_f_g {a b : hs_S} (h : wk_f a b) : gr_c b = gr_c a := by
  unfold gr_c
  rw [h 1 (by decide) (by decide) (by decide), h 3 (by decide) (by decide) (by decide), h 4 (by decide) (by decide) (by decide)]
theorem wk_x_rf (υ : hs_S) : wk_x υ υ := ⟨Nat.le_refl _, fun _ _ => rfl, fun _ _ => rfl⟩
theorem wk_x_tr {a b c : hs_S} (h : wk_x a b) (h' : wk_x b c) : wk_x a c := by
  refine ⟨Nat.le_trans h.1 h'.1, fun j hj => ?_, fun s hs => ?_⟩
  · rw [h'.2.1 j (Nat.lt_of_lt_of_le hj h.1), h.2.1 j hj]
  · have e := h.2.2 s hs
    rw [h'.2.2 s (by rw [e]; exact hs), e]
theorem wk_64 {g : gr_G} {Z : Nat → Prop} {υ : hs_S} (h : wk_c g Z υ) : υ 15 0 ≤ 64 := pg_le (fun j hj => (h.1 j hj).1) (fun j k h1 h2 => (h.2.1 j k h1 h2).1)
theorem wk_visit {g : gr_G} {Z : Nat → Prop} {d r : Nat} {υ : hs_S} (h : wk_c g Z υ) (hd : wk_d d υ) (hq : d ≤ υ 15 0) (hr : r ≤ 64) (hw : ∀ s, r = s + 1 → gr_w g Z d s) :
    ck_visit υ r ∧ wk_c g Z (cf_visit υ r d) ∧ wk_d d (cf_visit υ r d) ∧ (∀ s, r = s + 1 → cf_visit υ r d 13 s ≤ d) ∧ wk_x υ (cf_visit υ r d) ∧ wk_f υ (cf_visit υ r d) := by
  have h64 := wk_64 h
  by_cases h0 : r = 0
  · have e : cf_visit υ r d = υ := if_pos h0
    rw [e]
    exact ⟨⟨hr, fun q => absurd h0 q⟩, h, hd, fun s hs => by omega, wk_x_rf _, wk_f_rf _⟩
  · have hs64 : r - 1 < 64 := by omega
    by_cases h1 : υ 13 (r - 1) < 2147483648
    · have e : cf_visit υ r d = υ := (if_neg h0).trans (if_pos h1)
      rw [e]
      refine ⟨⟨hr, fun _ => ⟨h.2.2.2 _ hs64, fun q => by omega⟩⟩, h, hd, fun s hs => ?_, wk_x_rf _, wk_f_rf _⟩
      have es : s = r - 1 := by omega
      subst es
      obtain ⟨_, j, hj, ej⟩ := h.2.2.1 _ hs64 h1
      have := hd j hj
      rw [ej] at this
      exact this
    · have hne : ∀ j, j < υ 15 0 → υ 14 j ≠ r - 1 := by
        intro j hj ej
        have h2 := (h.1 j hj).2
        rw [ej] at h2
        omega
      have hlt : υ 15 0 < 64 := pg_lt (fun j hj => (h.1 j hj).1) (fun j k a b => (h.2.1 j k a b).1) hs64 hne
      have e : cf_visit υ r d = hs_st (hs_st (hs_st υ 13 (r - 1) d) 14 (υ 15 0) (r - 1)) 15 0 (υ 15 0 + 1) := (if_neg h0).trans (if_neg h1)
      have e15 : cf_visit υ r d 15 0 = υ 15 0 + 1 := by rw [e]; rfl
      have e14 : ∀ j, cf_visit υ r d 14 j = if j = υ 15 0 then r - 1 else υ 14 j := by intro j; rw [e]; rfl
      have e13 : ∀ s, cf_visit υ r d 13 s = if s = r - 1 then d else υ 13 s := by intro s; rw [e]; rfl
      have eo : wk_f υ (cf_visit υ r d) := by
        intro k a b c
        rw [e, hs_fn _ _ _ c, hs_fn _ _ _ b, hs_fn _ _ _ a]
      generalize cf_visit υ r d = υ' at e15 e14 e13 eo
      have q14 : ∀ j, j < υ 15 0 → υ' 14 j = υ 14 j := fun j hj => by rw [e14, if_neg (by omega)]
      have q13 : ∀ j, j < υ 15 0 → υ' 13 (υ' 14 j) = υ 13 (υ 14 j) := fun j hj => by rw [q14 j hj, e13, if_neg (hne j hj)]
      have n14 : υ' 14 (υ 15 0) = r - 1 := by rw [e14, if_pos rfl]
      have n13 : υ' 13 (υ' 14 (υ 15 0)) = d := by rw [n14, e13, if_pos rfl]
      refine ⟨⟨hr, fun _ => ⟨h.2.2.2 _ hs64, fun _ => hlt⟩⟩, ⟨?_, ?_, ?_, ?_⟩, ?_, ?_, ⟨?_, ?_, ?_⟩, eo⟩
      · intro j hj
        rw [e15] at hj
        by_cases hj2 : j < υ 15 0
        · rw [q13 j hj2, q14 j hj2]; exact h.1 j hj2
        · have ej : j = υ 15 0 := by omega
          subst ej
          rw [n13, n14]; exact ⟨hs64, hq⟩
      · intro j k hjk hk
        rw [e15] at hk
        by_cases hk2 : k < υ 15 0
        · have hj2 : j < υ 15 0 := by omega
          rw [q13 j hj2, q13 k hk2, q14 j hj2, q14 k hk2]; exact h.2.1 j k hjk hk2
        · have ek : k = υ 15 0 := by omega
          subst ek
          rw [n13, n14, q13 j hjk, q14 j hjk]
          exact ⟨hne j hjk, hd j hjk⟩
      · intro s hs hv
        rw [e15]
        rw [e13] at hv ⊢
        by_cases es : s = r - 1
        · rw [if_pos es]
          refine ⟨hw s (by omega), υ 15 0, by omega, ?_⟩
          rw [n14, es]
        · rw [if_neg es] at hv ⊢
          obtain ⟨a, j, hj, ej⟩ := h.2.2.1 s hs hv
          exact ⟨a, j, by omega, by rw [q14 j hj]; exact ej⟩
      · intro s hs
        rw [e13]
        split
        · omega
        · exact h.2.2.2 s hs
      · intro j hj
        rw [e15] at hj
        by_cases hj2 : j < υ 15 0
        · rw [q13 j hj2]; exact hd j hj2
        · have ej : j = υ 15 0 := by omega
          subst ej
          rw [n13]; exact Nat.le_refl _
      · intro s hs
        rw [e13, if_pos (by omega)]; exact Nat.le_refl _
      · rw [e15]; omega
      · exact q14
      · intro s hs
        rw [e13, if_neg (fun es => h1 (by rw [← es]; exact hs))]
end
section
set_option maxRecDepth 100000
theorem wk_start (g : gr_G) (Z : Nat → Prop) (σ : hs_S) : wk_c g Z (cf_start σ) ∧ cf_start σ 15 0 = 0 ∧ wk_f σ (cf_start σ) := by
  have h := it_inv0 (f := cf_s1) (N := 64) (fun i τ => (∀ s, s < i → τ 13 s = 4294967295) ∧ ∀ k, k ≠ 13 → τ k = σ k) (fun i τ hi h => ⟨fun s hs => by
      show hs_st τ 13 i 4294967295 13 s = _
      rw [hs_if]
      split
      · rfl
      · exact h.1 s (by omega), fun k hk => by
      show hs_st τ 13 i 4294967295 k = _
      rw [hs_fn _ _ _ hk]
      exact h.2 k hk⟩) σ ⟨fun s hs => absurd hs (Nat.not_lt_zero s), fun _ _ => rfl⟩
  have e15 : cf_start σ 15 0 = 0 := by
    show hs_st (it_f cf_s1 64 0 σ) 15 0 0 15 0 = 0
    rw [hs_same]
  have e13 : ∀ s, s < 64 → cf_start σ 13 s = 4294967295 := by
    intro s hs
    show hs_st (it_f cf_s1 64 0 σ) 15 0 0 13 s = _
    rw [hs_ne _ _ _ _ (by decide)]
    exact h.1 s hs
  have eo : wk_f σ (cf_start σ) := by
    intro k a b c
    show hs_st (it_f cf_s1 64 0 σ) 15 0 0 k = σ k
    rw [hs_fn _ _ _ c]
    exact h.2 k a
  refine ⟨⟨fun j hj => by omega, fun j k _ hk => by omega, fun s hs hv => ?_, fun s hs => ?_⟩, e15, eo⟩
  · rw [e13 s hs] at hv
    omega
  · rw [e13 s hs]
    omega
/-- behind the roots -/
def wk_r (g : gr_G) (Z : Nat → Prop) (υ : hs_S) : Prop := wk_c g Z υ ∧ wk_d 0 υ ∧ ∀ r, r < 8 → Z r → ∀ s, g.1 r = s + 1 → υ 13 s ≤ 0
theorem wk_roots {σ : hs_S} (hf : gr_fit (gr_c σ)) : it_k ck_vr cf_vr 8 0 (cf_start σ) ∧ wk_r (gr_c σ) gr_all (cf_w1 σ) ∧ wk_f σ (cf_w1 σ) := by
  obtain ⟨h1, h2, h3⟩ := wk_start (gr_c σ) gr_all σ
  have h := it_invK (f := cf_vr) (k := ck_vr) (N := 8) (fun r υ => wk_c (gr_c σ) gr_all υ ∧ wk_d 0 υ ∧ (∀ r', r' < r → ∀ s, σ 1 r' = s + 1 → υ 13 s ≤ 0) ∧ wk_f σ υ) (fun r υ hr h => by
      obtain ⟨a, b, c, d⟩ := h
      have e1 : υ 1 r = σ 1 r := by rw [d 1 (by decide) (by decide) (by decide)]
      have hv := wk_visit (r := υ 1 r) a b (Nat.zero_le _) (by rw [e1]; exact hf.1 r hr) (fun s hs => ⟨r, hr, trivial, by show σ 1 r = s + 1; rw [← e1]; exact hs⟩)
      obtain ⟨v1, v2, v3, v4, v5, v6⟩ := hv
      refine ⟨v1, v2, v3, fun r' hr' s hs => ?_, wk_f_tr d v6⟩
      show cf_visit υ (υ 1 r) 0 13 s ≤ 0
      by_cases q : r' < r
      · have hc := c r' q s hs
        rw [v5.2.2 s (by omega)]
        exact hc
      · have eq : r' = r := by omega
        subst eq
        exact v4 s (by rw [e1]; exact hs)) (cf_start σ) ⟨h1, fun j hj => by omega, fun r' hr' => absurd hr' (Nat.not_lt_zero _), h3⟩
  exact ⟨h.1, ⟨h.2.1, h.2.2.1, fun r hr _ s hs => h.2.2.2.1 r hr s hs⟩, h.2.2.2.2⟩
theorem wk_one {σ : hs_S} {a : Nat} (ha : a < 8) (hf : gr_fit (gr_c σ)) : ck_visit (cf_start σ) (cf_start σ 1 a) ∧ wk_r (gr_c σ) (fun r => r = a) (cf_visit (cf_start σ) (cf_start σ 1 a) 0) ∧ wk_f σ (cf_visit (cf_start σ) (cf_start σ 1 a) 0) := by
  obtain ⟨h1, h2, h3⟩ := wk_start (gr_c σ) (fun r => r = a) σ
  have e1 : cf_start σ 1 a = σ 1 a := by rw [h3 1 (by decide) (by decide) (by decide)]
  obtain ⟨v1, v2, v3, v4, v5, v6⟩ := wk_visit (r := cf_start σ 1 a) (d := 0) h1 (fun j hj => by omega) (Nat.zero_le _) (by rw [e1]; exact hf.1 a ha) (fun s hs => ⟨a, ha, rfl, by show σ 1 a = s + 1; rw [← e1]; exact hs⟩)
  refine ⟨v1, ⟨v2, v3, fun r hr hz s hs => ?_⟩, wk_f_tr h3 v6⟩
  subst hz
  exact v4 s (by rw [e1]; exact hs)
/-- the walk's end: what was seen is what is reached, at its distance -/
def wk_ok (g : gr_G) (Z : Nat → Prop) (υ : hs_S) : Prop := wk_c g Z υ ∧ ∀ n s, gr_w g Z n s → s < 64 ∧ υ 13 s ≤ n ∧ υ 13 s < 2147483648
theorem wk_end {g : gr_G} {Z : Nat → Prop} {υ : hs_S} (hf : gr_fit g) (h : wk_c g Z υ) (hr : ∀ r, r < 8 → Z r → ∀ s, g.1 r = s + 1 → υ 13 s ≤ 0) (hc : ∀ j, j < υ 15 0 → ∀ f, f < 3 → ∀ t, g.2.1 (υ 14 j) f = t + 1 → υ 13 t ≤ υ 13 (υ 14 j) + 1) : wk_ok g Z υ := by
  refine ⟨h, fun n => ?_⟩
  induction n with
  | zero =>
    intro s hw
    obtain ⟨r, h1, h2, h3⟩ := hw
    have h4 := hf.1 r h1
    have h5 := hr r h1 h2 s h3
    exact ⟨by omega, h5, by omega⟩
  | succ n ih =>
    intro s hw
    obtain ⟨t, f, h1, h2, h3⟩ := hw
    obtain ⟨h4, h5, h6⟩ := ih t h1
    obtain ⟨_, j, hj, ej⟩ := h.2.2.1 t h4 h6
    have h7 := hf.2 t ⟨n, gr_w_all h1⟩ f h2
    have h8 := hc j hj f h2 s (by rw [ej]; exact h3)
    have h9 := (h.1 j hj).2
    have h64 := wk_64 h
    rw [ej] at h8 h9
    exact ⟨by omega, by omega, by omega⟩
theorem wk_fin {g : gr_G} {Z : Nat → Prop} (hf : gr_fit g) : ∀ (n i : Nat) (υ : hs_S), i + n = 64 → gr_c υ = g → wk_c g Z υ → (i < υ 15 0 → wk_d (υ 13 (υ 14 i) + 1) υ) → (∀ r, r < 8 → Z r → ∀ s, g.1 r = s + 1 → υ 13 s ≤ 0) →
    (∀ j, j < i → j < υ 15 0 → ∀ f, f < 3 → ∀ t, g.2.1 (υ 14 j) f = t + 1 → υ 13 t ≤ υ 13 (υ 14 j) + 1) → ck_fin n i υ ∧ wk_ok g Z (cf_fin n i υ) ∧ wk_f υ (cf_fin n i υ) := by
  intro n
  induction n with
  | zero =>
    intro i υ hi hg h hd hr hc
    have h64 := wk_64 h
    have e0 : cf_fin 0 i υ = υ := rfl
    rw [e0]
    refine ⟨?_, wk_end hf h hr (fun j hj => hc j (by omega) hj), wk_f_rf _⟩
    show υ 15 0 < 2147483648
    omega
  | succ n ih =>
    intro i υ hi hg h hd hr hc
    have h64 := wk_64 h
    by_cases hq : i < υ 15 0
    · have hs64 := (h.1 i hq).1
      have hDi := (h.1 i hq).2
      have hW := (h.2.2.1 (υ 14 i) hs64 (by omega)).1
      have hfe : ∀ f, υ 4 (υ 14 i * 3 + f) = g.2.1 (υ 14 i) f := fun f => by rw [← hg]; rfl
      have L := it_invK (f := cf_vf (υ 14 i)) (k := ck_vf (υ 14 i)) (N := 3) (fun f u => wk_c g Z u ∧ wk_d (υ 13 (υ 14 i) + 1) u ∧ wk_x υ u ∧ wk_f υ u ∧ ∀ f', f' < f → ∀ t, g.2.1 (υ 14 i) f' = t + 1 → u 13 t ≤ υ 13 (υ 14 i) + 1) (fun f u hf3 I => by
        obtain ⟨a, b, c, d, e⟩ := I
        have eD : u 13 (υ 14 i) = υ 13 (υ 14 i) := c.2.2 _ (by omega)
        have eF : u 4 (υ 14 i * 3 + f) = g.2.1 (υ 14 i) f := by rw [d 4 (by decide) (by decide) (by decide)]; exact hfe f
        have hfit := hf.2 (υ 14 i) ⟨_, gr_w_all hW⟩ f hf3
        have hq2 := c.1
        obtain ⟨v1, v2, v3, v4, v5, v6⟩ := wk_visit (r := u 4 (υ 14 i * 3 + f)) (d := υ 13 (υ 14 i) + 1) a b (by omega) (by rw [eF]; exact hfit) (fun s hs => ⟨υ 14 i, f, hW, hf3, by rw [← eF]; exact hs⟩)
        have eV : cf_vf (υ 14 i) f u = cf_visit u (u 4 (υ 14 i * 3 + f)) (υ 13 (υ 14 i) + 1) := by rw [← eD]; rfl
        rw [eV]
        refine ⟨v1, v2, v3, wk_x_tr c v5, wk_f_tr d v6, fun f' hf' t ht => ?_⟩
        by_cases q : f' < f
        · have hc' := e f' q t ht
          rw [v5.2.2 t (by omega)]
          exact hc'
        · have eq : f' = f := by omega
          subst eq
          exact v4 t (by rw [eF]; exact ht)) υ ⟨h, hd hq, wk_x_rf _, wk_f_rf _, fun f' hf' => absurd hf' (Nat.not_lt_zero _)⟩
      obtain ⟨L1, L2, L3, L4, L5, L6⟩ := L
      have eC : cf_fin (n + 1) i υ = cf_fin n (i + 1) (it_f (cf_vf (υ 14 i)) 3 0 υ) := if_pos hq
      rw [eC]
      have hk : ck_fin (n + 1) i υ ↔ (υ 15 0 < 2147483648 ∧ (i < υ 15 0 → υ 14 i < 64 ∧ it_k (ck_vf (υ 14 i)) (cf_vf (υ 14 i)) 3 0 υ ∧ ck_fin n (i + 1) (it_f (cf_vf (υ 14 i)) 3 0 υ))) := Iff.rfl
      rw [hk]
      generalize it_f (cf_vf (υ 14 i)) 3 0 υ = u at L2 L3 L4 L5 L6 ⊢
      have s14 := L4.2.1 i hq
      have s13 : u 13 (υ 14 i) = υ 13 (υ 14 i) := L4.2.2 _ (by omega)
      obtain ⟨i1, i2, i3⟩ := ih (i + 1) u (by omega) ((wk_f_g L5).trans hg) L2 (fun hq2 => by
          have h1 := (L2.2.1 i (i + 1) (by omega) hq2).2
          rw [s14, s13] at h1
          intro j hj
          have h2 := L3 j hj
          omega) (fun r hr8 hz s hs => by
          have h1 := hr r hr8 hz s hs
          rw [L4.2.2 s (by omega)]
          exact h1) (fun j hj hjq f hf3 t ht => by
          by_cases q : j < i
          · have hj2 : j < υ 15 0 := by omega
            rw [L4.2.1 j hj2] at ht ⊢
            have h1 := hc j q hj2 f hf3 t ht
            have h2 := (h.1 j hj2).2
            rw [L4.2.2 t (by omega), L4.2.2 (υ 14 j) (by omega)]
            exact h1
          · have eq : j = i := by omega
            subst eq
            rw [s14] at ht ⊢
            rw [s13]
            exact L6 f hf3 t ht)
      exact ⟨⟨by omega, fun _ => ⟨hs64, L1, i1⟩⟩, i2, wk_f_tr L5 i3⟩
    · have eC : cf_fin (n + 1) i υ = υ := if_neg hq
      rw [eC]
      refine ⟨⟨by omega, fun q => absurd q hq⟩, wk_end hf h hr (fun j hj => hc j (by omega) hj), wk_f_rf _⟩
theorem wk_walk {σ : hs_S} (hf : gr_fit (gr_c σ)) : ck_walk σ ∧ wk_ok (gr_c σ) gr_all (cf_walk σ) ∧ wk_f σ (cf_walk σ) := by
  obtain ⟨h1, ⟨h2, h3, h4⟩, h5⟩ := wk_roots hf
  obtain ⟨i1, i2, i3⟩ := wk_fin (Z := gr_all) hf 64 0 (cf_w1 σ) (by omega) (wk_f_g h5) h2 (fun _ j hj => Nat.le_trans (h3 j hj) (Nat.zero_le _)) h4 (fun j hj => absurd hj (Nat.not_lt_zero _))
  exact ⟨⟨h1, i1⟩, i2, wk_f_tr h5 i3⟩
theorem wk_from {σ : hs_S} {a : Nat} (ha : a < 8) (hf : gr_fit (gr_c σ)) : ck_from σ a ∧ wk_ok (gr_c σ) (fun r => r = a) (cf_from σ a) ∧ wk_f σ (cf_from σ a) := by
  obtain ⟨h1, ⟨h2, h3, h4⟩, h5⟩ := wk_one ha hf
  obtain ⟨i1, i2, i3⟩ := wk_fin (Z := fun r => r = a) hf 64 0 _ (by omega) (wk_f_g h5) h2 (fun _ j hj => Nat.le_trans (h3 j hj) (Nat.zero_le _)) h4 (fun j hj => absurd hj (Nat.not_lt_zero _))
  exact ⟨⟨h1, i1⟩, i2, wk_f_tr h5 i3⟩
end
section
set_option maxRecDepth 100000
theorem gr_e_s {q p : Nat} (h : gr_e q = p + 1) : q = p ∧ q ≠ 4294967295 := by
  unfold gr_e at h
  split at h <;> omega
theorem gr_e_0 {q : Nat} : gr_e q = 0 ↔ q = 4294967295 := by
  unfold gr_e
  split <;> omega
theorem gr_e_n {q : Nat} (h : q ≠ 4294967295) : gr_e q = q + 1 := if_neg h
/-- the reference's cells hold places -/
def mo_i (τ : hs_S) : Prop := (∀ r, r < 8 → τ 0 r < 24 ∨ τ 0 r = 4294967295) ∧ ∀ i, i < 72 → τ 1 i < 24 ∨ τ 1 i = 4294967295
def mo_f (τ τ' : hs_S) : Prop := ∀ k, k ≠ 3 → τ' k = τ k
theorem mo_f_rf (τ : hs_S) : mo_f τ τ := fun _ _ => rfl
theorem mo_f_tr {a b c : hs_S} (h : mo_f a b) (h' : mo_f b c) : mo_f a c := fun k q => (h' k q).trans (h k q)
theorem mo_f_g {a b : hs_S} (h : mo_f a b) : gr_m b = gr_m a := by
  unfold gr_m
  rw [h 0 (by decide), h 1 (by decide), h 2 (by decide)]
theorem mo_f_i {a b : hs_S} (h : mo_f a b) (hi : mo_i a) : mo_i b := by
  unfold mo_i
  rw [h 0 (by decide), h 1 (by decide)]
  exact hi
theorem mo_w24 {τ : hs_S} (hi : mo_i τ) {Z : Nat → Prop} : ∀ {n p : Nat}, gr_w (gr_m τ) Z n p → p < 24 := by
  intro n
  induction n with
  | zero =>
    intro p hw
    obtain ⟨r, h1, _, h3⟩ := hw
    have h4 := gr_e_s (q := τ 0 r) h3
    rcases hi.1 r h1 with q | q <;> omega
  | succ n ih =>
    intro p hw
    obtain ⟨t, f, h1, h2, h3⟩ := hw
    have ht := ih h1
    have h4 := gr_e_s (q := τ 1 (t * 3 + f)) h3
    rcases hi.2 (t * 3 + f) (by omega) with q | q <;> omega
def ms_s (h : gr_G) (Z : Nat → Prop) (υ : hs_S) : Prop := ∀ o, o < 24 → υ 3 o = 1000 ∨ (υ 3 o < 1000 ∧ gr_w h Z (υ 3 o) o)
theorem ms_p1 (τ : hs_S) : (∀ o, o < 24 → mf_p1 τ 3 o = 1000) ∧ mo_f τ (mf_p1 τ) :=
  it_inv0 (f := mf_s1) (N := 24) (fun i u => (∀ s, s < i → u 3 s = 1000) ∧ mo_f τ u) (fun i u hi h => ⟨fun s hs => by
      show hs_st u 3 i 1000 3 s = _
      rw [hs_if]
      split
      · rfl
      · exact h.1 s (by omega), fun k hk => by
      show hs_st u 3 i 1000 k = _
      rw [hs_fn _ _ _ hk]
      exact h.2 k hk⟩) τ ⟨fun s hs => absurd hs (Nat.not_lt_zero s), fun _ _ => rfl⟩
def ms_Z (a : Nat) : Nat → Prop := fun r => 2147483648 ≤ a ∨ a = r
theorem ms_p2 {τ : hs_S} (hi : mo_i τ) (a : Nat) : it_k mk_s2 (mf_s2 a) 8 0 (mf_p1 τ) ∧ mo_f τ (mf_p2 τ a) ∧ ms_s (gr_m τ) (ms_Z a) (mf_p2 τ a) ∧ ∀ p, gr_w (gr_m τ) (ms_Z a) 0 p → mf_p2 τ a 3 p = 0 := by
  obtain ⟨h1, h2⟩ := ms_p1 τ
  have h := it_invK (f := mf_s2 a) (k := mk_s2) (N := 8) (fun r u => mo_f τ u ∧ (∀ o, o < 24 → u 3 o = 1000 ∨ (u 3 o = 0 ∧ gr_w (gr_m τ) (ms_Z a) 0 o)) ∧ ∀ r', r' < r → ms_Z a r' → ∀ p, gr_e (τ 0 r') = p + 1 → u 3 p = 0) (fun r u hr I => by
      obtain ⟨i1, i2, i3⟩ := I
      have e0 : u 0 r = τ 0 r := by rw [i1 0 (by decide)]
      have h0 := hi.1 r hr
      refine ⟨by show u 0 r < 24 ∨ _; rw [e0]; exact h0, ?_⟩
      by_cases hz : ms_Z a r
      · by_cases hp : u 0 r < 2147483648
        · have e : mf_s2 a r u = hs_st u 3 (u 0 r) 0 := (if_pos hz).trans (if_pos hp)
          rw [e, e0]
          rw [e0] at hp
          refine ⟨fun k hk => ?_, fun o ho => ?_, fun r' hr' hz' p hp' => ?_⟩
          · rw [hs_fn _ _ _ hk]; exact i1 k hk
          · rw [hs_if]
            by_cases eo : o = τ 0 r
            · rw [if_pos eo]
              exact Or.inr ⟨rfl, r, hr, hz, by show gr_e (τ 0 r) = o + 1; rw [eo]; exact gr_e_n (by omega)⟩
            · rw [if_neg eo]; exact i2 o ho
          · rw [hs_if]
            split
            · rfl
            · by_cases q : r' < r
              · exact i3 r' q hz' p hp'
              · have eq : r' = r := by omega
                subst eq
                have := gr_e_s hp'
                omega
        · have e : mf_s2 a r u = u := (if_pos hz).trans (if_neg hp)
          rw [e]
          refine ⟨i1, i2, fun r' hr' hz' p hp' => ?_⟩
          by_cases q : r' < r
          · exact i3 r' q hz' p hp'
          · have eq : r' = r := by omega
            subst eq
            have := gr_e_s hp'
            rw [e0] at hp
            rcases h0 with q | q <;> omega
      · have e : mf_s2 a r u = u := if_neg hz
        rw [e]
        refine ⟨i1, i2, fun r' hr' hz' p hp' => ?_⟩
        by_cases q : r' < r
        · exact i3 r' q hz' p hp'
        · have eq : r' = r := by omega
          subst eq
          exact absurd hz' hz) (mf_p1 τ) ⟨h2, fun o ho => Or.inl (h1 o ho), fun r' hr' => absurd hr' (Nat.not_lt_zero _)⟩
  obtain ⟨j1, j2, j3, j4⟩ := h
  refine ⟨j1, j2, fun o ho => ?_, fun p hp => ?_⟩
  · rcases j3 o ho with q | ⟨q, w⟩
    · exact Or.inl q
    · refine Or.inr ⟨?_, ?_⟩
      · show mf_p2 τ a 3 o < 1000
        have e : mf_p2 τ a 3 o = 0 := q
        omega
      · have e : mf_p2 τ a 3 o = 0 := q
        rw [e]; exact w
  · obtain ⟨r, a1, a2, a3⟩ := hp
    exact j4 r a1 a2 p a3
theorem ms_rel {τ u : hs_S} {Z : Nat → Prop} {q i : Nat} (hi : mo_i τ) (hq : q ≤ 24) (hi72 : i < 72) (h1 : mo_f τ u) (h2 : ms_s (gr_m τ) Z u) (h3 : ∀ n, n ≤ q → ∀ p, gr_w (gr_m τ) Z n p → u 3 p ≤ n) :
    mk_rel i u ∧ mo_f τ (mf_rel i u) ∧ ms_s (gr_m τ) Z (mf_rel i u) ∧ (∀ p, mf_rel i u 3 p ≤ u 3 p) ∧ (∀ n, n ≤ q → ∀ p, gr_w (gr_m τ) Z n (i / 3) → gr_e (τ 1 i) = p + 1 → mf_rel i u 3 p ≤ n + 1) := by
  have e1 : u 1 i = τ 1 i := by rw [h1 1 (by decide)]
  have ho : i / 3 < 24 := by omega
  have ht := hi.2 i hi72
  have so := h2 (i / 3) ho
  have hk : mk_rel i u := by
    refine ⟨by rcases so with q | q <;> omega, ?_⟩
    rw [e1]
    rcases ht with q | q
    · refine Or.inr ⟨q, ?_⟩
      rcases h2 _ q with w | w <;> omega
    · exact Or.inl q
  refine ⟨hk, ?_⟩
  have triv : mf_rel i u = u → (∀ n, n ≤ q → ∀ p, gr_w (gr_m τ) Z n (i / 3) → gr_e (τ 1 i) = p + 1 → u 3 p ≤ n + 1) → mo_f τ (mf_rel i u) ∧ ms_s (gr_m τ) Z (mf_rel i u) ∧ (∀ p, mf_rel i u 3 p ≤ u 3 p) ∧ (∀ n, n ≤ q → ∀ p, gr_w (gr_m τ) Z n (i / 3) → gr_e (τ 1 i) = p + 1 → mf_rel i u 3 p ≤ n + 1) := by
    intro e hx
    rw [e]
    exact ⟨h1, h2, fun p => Nat.le_refl _, hx⟩
  by_cases c1 : u 3 (i / 3) < 1000
  · by_cases c2 : u 1 i < 2147483648
    · have t24 : τ 1 i < 24 := by rw [e1] at c2; rcases ht with q | q <;> omega
      by_cases c3 : u 3 (i / 3) + 1 < u 3 (u 1 i)
      · have e : mf_rel i u = hs_st u 3 (u 1 i) (u 3 (i / 3) + 1) := (if_pos c1).trans ((if_pos c2).trans (if_pos c3))
        rw [e, e1]
        rw [e1] at c3
        have st := h2 _ t24
        have sw : gr_w (gr_m τ) Z (u 3 (i / 3)) (i / 3) := by
          rcases so with q | q
          · omega
          · exact q.2
        refine ⟨fun k hk => ?_, fun o ho => ?_, fun p => ?_, fun n hn p hw hp => ?_⟩
        · rw [hs_fn _ _ _ hk]; exact h1 k hk
        · rw [hs_if]
          by_cases eo : o = τ 1 i
          · rw [if_pos eo]
            refine Or.inr ⟨by rcases st with q | q <;> omega, i / 3, i % 3, sw, by omega, ?_⟩
            show gr_e (τ 1 (i / 3 * 3 + i % 3)) = o + 1
            have ei : i / 3 * 3 + i % 3 = i := by omega
            rw [ei, eo]
            exact gr_e_n (by omega)
          · rw [if_neg eo]; exact h2 o ho
        · rw [hs_if]
          split
          · next ep => rw [ep]; omega
          · exact Nat.le_refl _
        · have ep := (gr_e_s hp).1
          have hn2 := h3 n hn _ hw
          rw [hs_if, if_pos ep.symm]
          omega
      · refine triv ((if_pos c1).trans ((if_pos c2).trans (if_neg c3))) (fun n hn p hw hp => ?_)
        have ep := (gr_e_s hp).1
        have hn2 := h3 n hn _ hw
        rw [e1, ep] at c3
        omega
    · refine triv ((if_pos c1).trans (if_neg c2)) (fun n hn p hw hp => ?_)
      have ep := gr_e_s hp
      rw [e1] at c2
      rcases ht with q | q <;> omega
  · refine triv (if_neg c1) (fun n hn p hw hp => ?_)
    have hn2 := h3 n hn _ hw
    omega
/-- the sweeps' end -/
def ms_ok (h : gr_G) (Z : Nat → Prop) (υ : hs_S) : Prop := ms_s h Z υ ∧ ∀ n, n ≤ 24 → ∀ p, gr_w h Z n p → υ 3 p ≤ n
theorem ms_rnd {τ u : hs_S} {Z : Nat → Prop} {q : Nat} (hi : mo_i τ) (hq : q < 24) (h1 : mo_f τ u) (h2 : ms_s (gr_m τ) Z u) (h3 : ∀ n, n ≤ q → ∀ p, gr_w (gr_m τ) Z n p → u 3 p ≤ n) :
    mk_rnd q u ∧ mo_f τ (mf_rnd q u) ∧ ms_s (gr_m τ) Z (mf_rnd q u) ∧ ∀ n, n ≤ q + 1 → ∀ p, gr_w (gr_m τ) Z n p → mf_rnd q u 3 p ≤ n := by
  have h := it_invK (f := mf_rel) (k := mk_rel) (N := 72) (fun i v => mo_f τ v ∧ ms_s (gr_m τ) Z v ∧ (∀ n, n ≤ q → ∀ p, gr_w (gr_m τ) Z n p → v 3 p ≤ n) ∧ ∀ j, j < i → ∀ n, n ≤ q → ∀ p, gr_w (gr_m τ) Z n (j / 3) → gr_e (τ 1 j) = p + 1 → v 3 p ≤ n + 1) (fun i v hi72 I => by
      obtain ⟨i1, i2, i3, i4⟩ := I
      obtain ⟨r1, r2, r3, r4, r5⟩ := ms_rel hi (Nat.le_of_lt hq) hi72 i1 i2 i3
      refine ⟨r1, r2, r3, fun n hn p hw => Nat.le_trans (r4 p) (i3 n hn p hw), fun j hj n hn p hw hp => ?_⟩
      by_cases q : j < i
      · exact Nat.le_trans (r4 p) (i4 j q n hn p hw hp)
      · have eq : j = i := by omega
        subst eq
        exact r5 n hn p hw hp) u ⟨h1, h2, h3, fun j hj => absurd hj (Nat.not_lt_zero _)⟩
  obtain ⟨j1, j2, j3, j4, j5⟩ := h
  refine ⟨j1, j2, j3, fun n hn p hw => ?_⟩
  by_cases q1 : n ≤ q
  · exact j4 n q1 p hw
  · have en : n = q + 1 := by omega
    subst en
    obtain ⟨t, f, w1, w2, w3⟩ := hw
    have t24 := mo_w24 hi w1
    refine j5 (t * 3 + f) (by omega) q (Nat.le_refl _) p ?_ w3
    have et : (t * 3 + f) / 3 = t := by omega
    rw [et]
    exact w1
theorem ms_spread {τ : hs_S} {a : Nat} (hi : mo_i τ) (ha : a < 4294967296) : mk_spread τ a ∧ mo_f τ (mf_spread τ a) ∧ ms_ok (gr_m τ) (ms_Z a) (mf_spread τ a) := by
  obtain ⟨h1, h2, h3, h4⟩ := ms_p2 hi a
  have h := it_invK (f := mf_rnd) (k := mk_rnd) (N := 24) (fun q v => mo_f τ v ∧ ms_s (gr_m τ) (ms_Z a) v ∧ ∀ n, n ≤ q → ∀ p, gr_w (gr_m τ) (ms_Z a) n p → v 3 p ≤ n) (fun q v hq I => by
      obtain ⟨i1, i2, i3⟩ := I
      exact ms_rnd hi hq i1 i2 i3) (mf_p2 τ a) ⟨h2, h3, fun n hn p hw => by
      have en : n = 0 := by omega
      subst en
      rw [h4 p hw]
      exact Nat.le_refl _⟩
  exact ⟨⟨ha, h1, h.1⟩, h.2.1, h.2.2.1, h.2.2.2⟩
theorem ms_1000 {h : gr_G} {Z : Nat → Prop} {υ : hs_S} (H : ms_s h Z υ) {o : Nat} (ho : o < 24) : υ 3 o ≤ 1000 := by
  rcases H o ho with q | q <;> omega
end
section
set_option maxRecDepth 100000
noncomputable def jn_p (ρ : Nat → Nat → Prop) (s : Nat) : Nat := Classical.epsilon (fun p => ρ s p)
theorem jn_ps {ρ : Nat → Nat → Prop} {s p : Nat} (h : ρ s p) : ρ s (jn_p ρ s) := Classical.epsilon_spec (p := fun p => ρ s p) ⟨p, h⟩
theorem jn_at {ρ : Nat → Nat → Prop} {g h : gr_G} {Z : Nat → Prop} {υ : hs_S} (B : gr_b ρ g h) (K : wk_c g Z υ) {j : Nat} (hj : j < υ 15 0) : ρ (υ 14 j) (jn_p ρ (υ 14 j)) ∧ gr_w g Z (υ 13 (υ 14 j)) (υ 14 j) ∧ gr_w h Z (υ 13 (υ 14 j)) (jn_p ρ (υ 14 j)) := by
  obtain ⟨h1, h2⟩ := K.1 j hj
  have h64 := wk_64 K
  have hw := (K.2.2.1 (υ 14 j) h1 (by omega)).1
  obtain ⟨p, hp, _⟩ := gr_b_w B hw
  have hs := jn_ps hp
  exact ⟨hs, hw, gr_b_wp B hw hs⟩
theorem jn_nd {ρ : Nat → Nat → Prop} {g h : gr_G} {Z : Nat → Prop} {υ : hs_S} (B : gr_b ρ g h) (K : wk_c g Z υ) : ∀ j k, j < k → k < υ 15 0 → jn_p ρ (υ 14 j) ≠ jn_p ρ (υ 14 k) := by
  intro j k hjk hk e
  have h1 := (jn_at B K (Nat.lt_trans hjk hk)).1
  have h2 := (jn_at B K hk).1
  rw [← e] at h2
  exact (K.2.1 j k hjk hk).1 (B.2.1 _ _ _ h1 h2)
theorem jn_q24 {ρ : Nat → Nat → Prop} {g h : gr_G} {Z : Nat → Prop} {υ : hs_S} (B : gr_b ρ g h) (K : wk_c g Z υ) (hp : ∀ n p, gr_w h Z n p → p < 24) : υ 15 0 ≤ 24 :=
  pg_le (fun _ hj => hp _ _ (jn_at B K hj).2.2) (jn_nd B K)
theorem jn_dist {ρ : Nat → Nat → Prop} {g h : gr_G} {Z : Nat → Prop} {υ ω : hs_S} (B : gr_b ρ g h) (K : wk_ok g Z υ) (M : ms_ok h Z ω) (hp : ∀ n p, gr_w h Z n p → p < 24) {n s p : Nat} (hr : ρ s p) (hw : gr_w g Z n s) : ω 3 p = υ 13 s ∧ ω 3 p < 1000 := by
  have q24 := jn_q24 B K.1 hp
  obtain ⟨h1, h2, h3⟩ := K.2 n s hw
  obtain ⟨h4, j, hj, ej⟩ := K.1.2.2.1 s h1 h3
  have h5 := (K.1.1 j hj).2
  rw [ej] at h5
  have h6 := gr_b_wp B h4 hr
  have h7 := M.2 (υ 13 s) (by omega) p h6
  rcases M.1 p (hp _ _ h6) with q | ⟨q1, q2⟩
  · omega
  · have h8 := (K.2 _ s (gr_b_vp B q2 hr)).2.1
    exact ⟨by omega, q1⟩
theorem jn_un {ρ : Nat → Nat → Prop} {g h : gr_G} {Z : Nat → Prop} {υ ω : hs_S} (B : gr_b ρ g h) (K : wk_ok g Z υ) (M : ms_ok h Z ω) {s p : Nat} (hr : ρ s p) (hp : p < 24) (hs : s < 64) (hu : ¬ υ 13 s < 2147483648) : ω 3 p = 1000 := by
  rcases M.1 p hp with q | ⟨q1, q2⟩
  · exact q
  · exact absurd (K.2 _ s (gr_b_vp B q2 hr)).2.2 hu
theorem jn_perm {ρ : Nat → Nat → Prop} {g h : gr_G} {Z : Nat → Prop} {υ ω : hs_S} (B : gr_b ρ g h) (K : wk_ok g Z υ) (M : ms_ok h Z ω) (hp : ∀ n p, gr_w h Z n p → p < 24) :
    ((List.range (υ 15 0)).map (fun j => jn_p ρ (υ 14 j))).Perm ((List.range 24).filter (fun o => decide (ω 3 o < 1000))) := by
  rw [List.perm_ext_iff_of_nodup (pg_nd (jn_nd B K.1)) (List.Pairwise.filter _ List.nodup_range)]
  intro p
  rw [List.mem_map, List.mem_filter, List.mem_range]
  constructor
  · rintro ⟨j, hj, rfl⟩
    have hj := List.mem_range.mp hj
    obtain ⟨a1, a2, a3⟩ := jn_at B K.1 hj
    exact ⟨hp _ _ a3, decide_eq_true (jn_dist B K M hp a1 a2).2⟩
  · rintro ⟨h1, h2⟩
    have h2 := of_decide_eq_true h2
    rcases M.1 p h1 with q | ⟨_, q2⟩
    · omega
    · obtain ⟨s, hs, hw⟩ := gr_b_v B q2
      obtain ⟨a1, a2, a3⟩ := K.2 _ s hw
      obtain ⟨_, j, hj, ej⟩ := K.1.2.2.1 s a1 a3
      refine ⟨j, List.mem_range.mpr hj, ?_⟩
      rw [ej]
      exact B.1 s _ _ (jn_ps hs) hs
theorem it_fo (ω : hs_S) : ∀ n i a, it_f (mf_fo ω) n i a = a + ((List.range' i n).filter (fun o => decide (ω 3 o < 1000))).length := by
  intro n
  induction n with
  | zero => intro i a; rfl
  | succ n ih =>
    intro i a
    show it_f (mf_fo ω) n (i + 1) (mf_fo ω i a) = _
    rw [ih, List.range'_succ]
    by_cases h : ω 3 i < 1000
    · rw [List.filter_cons_of_pos (by simpa using h), List.length_cons]
      have e : mf_fo ω i a = a + 1 := if_pos h
      rw [e]; omega
    · rw [List.filter_cons_of_neg (by simpa using h)]
      have e : mf_fo ω i a = a := if_neg h
      rw [e]
theorem it_su (ω : hs_S) : ∀ n i a, it_f (mf_su ω) n i a = a + (((List.range' i n).filter (fun o => decide (ω 3 o < 1000))).map (ω 2)).sum := by
  intro n
  induction n with
  | zero => intro i a; rfl
  | succ n ih =>
    intro i a
    show it_f (mf_su ω) n (i + 1) (mf_su ω i a) = _
    rw [ih, List.range'_succ]
    by_cases h : ω 3 i < 1000
    · rw [List.filter_cons_of_pos (by simpa using h), List.map_cons, List.sum_cons]
      have e : mf_su ω i a = a + ω 2 i := if_pos h
      rw [e]; omega
    · rw [List.filter_cons_of_neg (by simpa using h)]
      have e : mf_su ω i a = a := if_neg h
      rw [e]
theorem it_cs (υ : hs_S) : ∀ n i a, it_f (cf_su υ) n i a = a + ((List.range' i n).map (fun j => υ 3 (υ 14 j))).sum := by
  intro n
  induction n with
  | zero => intro i a; rfl
  | succ n ih =>
    intro i a
    show it_f (cf_su υ) n (i + 1) (a + υ 3 (υ 14 i)) = _
    rw [ih, List.range'_succ, List.map_cons, List.sum_cons]
    omega
theorem jn_found {ρ : Nat → Nat → Prop} {g h : gr_G} {Z : Nat → Prop} {υ ω : hs_S} (B : gr_b ρ g h) (K : wk_ok g Z υ) (M : ms_ok h Z ω) (hp : ∀ n p, gr_w h Z n p → p < 24) : υ 15 0 = mf_found ω := by
  have h1 := (jn_perm B K M hp).length_eq
  rw [List.length_map, List.length_range] at h1
  unfold mf_found
  rw [it_fo, ← List.range_eq_range', ← h1]
  omega
theorem jn_sum {ρ : Nat → Nat → Prop} {g h : gr_G} {Z : Nat → Prop} {υ ω : hs_S} (B : gr_b ρ g h) (K : wk_ok g Z υ) (M : ms_ok h Z ω) (hp : ∀ n p, gr_w h Z n p → p < 24) (e1 : υ 3 = g.2.2) (e2 : ω 2 = h.2.2) : it_f (cf_su υ) (υ 15 0) 0 0 = it_f (mf_su ω) 24 0 0 := by
  rw [it_cs, it_su, ← List.range_eq_range', ← List.range_eq_range']
  congr 1
  have h1 := ((jn_perm B K M hp).map (ω 2)).sum_nat
  rw [← h1, List.map_map]
  congr 1
  apply List.map_congr_left
  intro j hj
  have hj := List.mem_range.mp hj
  have h2 := (B.2.2.2 _ _ (jn_at B K.1 hj).1).1
  show υ 3 (υ 14 j) = ω 2 (jn_p ρ (υ 14 j))
  rw [e1, e2]
  exact h2
theorem mf_found_lt {ω : hs_S} (h : mf_found ω ≠ 24) : ∃ o, o < 24 ∧ ¬ ω 3 o < 1000 := by
  apply Classical.byContradiction
  intro hn
  apply h
  unfold mf_found
  rw [it_fo, ← List.range_eq_range', List.filter_eq_self.mpr, List.length_range]
  intro o ho
  have ho := List.mem_range.mp ho
  apply decide_eq_true
  apply Classical.byContradiction
  intro q
  exact hn ⟨o, ho, q⟩
theorem mf_found_le (ω : hs_S) : mf_found ω ≤ 24 := by
  have h := mf_fo_b ω 24 0 0
  unfold mf_found
  omega
/-- the last place that isn't reached -/
theorem mf_place_b {ω : hs_S} (h : ∃ o, o < 24 ∧ ω 3 o = 1000) : mf_place ω < 24 ∧ ω 3 (mf_place ω) = 1000 := by
  have h1 := it_inv0 (f := mf_pl ω) (N := 24) (fun i p => (p = 4294967295 ∧ ∀ o, o < i → ω 3 o ≠ 1000) ∨ (p < 24 ∧ ω 3 p = 1000)) (fun i p hi I => by
      by_cases q : ω 3 i = 1000
      · have e : mf_pl ω i p = i := if_pos q
        rw [e]
        exact Or.inr ⟨hi, q⟩
      · have e : mf_pl ω i p = p := if_neg q
        rw [e]
        rcases I with ⟨a, b⟩ | a
        · refine Or.inl ⟨a, fun o ho => ?_⟩
          by_cases w : o < i
          · exact b o w
          · have eo : o = i := by omega
            rw [eo]; exact q
        · exact Or.inr a) 4294967295 (Or.inl ⟨rfl, fun o ho => absurd ho (Nat.not_lt_zero _)⟩)
  obtain ⟨o, ho, eo⟩ := h
  rcases h1 with ⟨_, b⟩ | b
  · exact absurd eo (b o ho)
  · exact b
end
section
set_option maxRecDepth 100000
-- ===== the class's heap: blocks, used slots =====
def hv_o (σ : hs_S) : Prop := 1 ≤ σ 5 0 ∧ σ 5 0 ≤ 8 ∧ (∀ i, i < 8 → σ 6 i < 8) ∧ (∀ i j, i < j → j < σ 5 0 → σ 6 i ≠ σ 6 j) ∧ σ 8 0 ≤ 8
def hv_u (σ : hs_S) : Prop := (∀ s, s < 64 → σ 2 s ≤ 1) ∧ ∀ s, s < 64 → σ 2 s = 1 → ∃ i, i < σ 5 0 ∧ σ 6 i = s / 8 ∧ (i = σ 5 0 - 1 → s % 8 < σ 8 0)
theorem hv_inj {σ : hs_S} (h : hv_o σ) {i j : Nat} (hi : i < σ 5 0) (hj : j < σ 5 0) (e : σ 6 i = σ 6 j) : i = j := by
  by_cases h1 : i < j
  · exact absurd e (h.2.2.2.1 i j h1 hj)
  · by_cases h2 : j < i
    · exact absurd e.symm (h.2.2.2.1 j i h2 hi)
    · omega
theorem cf_inL_0 (σ : hs_S) (b : Nat) : ∀ n i, cf_inL σ b n i = 0 ↔ ∀ j, i ≤ j → j < i + n → σ 6 j ≠ b := by
  intro n
  induction n with
  | zero =>
    intro i
    constructor
    · intro _ j h1 h2; omega
    · intro _; rfl
  | succ n ih =>
    intro i
    show (if σ 6 i = b then 1 else cf_inL σ b n (i + 1)) = 0 ↔ _
    by_cases q : σ 6 i = b
    · rw [if_pos q]
      constructor
      · intro h; omega
      · intro h; exact absurd q (h i (Nat.le_refl _) (by omega))
    · rw [if_neg q, ih]
      constructor
      · intro h j h1 h2
        by_cases e : j = i
        · rw [e]; exact q
        · exact h j (by omega) (by omega)
      · intro h j h1 h2
        exact h j (by omega) (by omega)
theorem cf_in_0 {σ : hs_S} {b : Nat} : cf_in σ b = 0 ↔ ∀ j, j < σ 5 0 → σ 6 j ≠ b := by
  unfold cf_in
  rw [cf_inL_0]
  constructor
  · intro h j hj; exact h j (Nat.zero_le _) (by omega)
  · intro h j _ hj; exact h j (by omega)
theorem cf_ff_0 (σ : hs_S) : ∀ n b, (∃ c, b ≤ c ∧ c ≤ b + n ∧ cf_in σ c = 0) → cf_in σ (cf_ff σ n b) = 0 ∧ cf_ff σ n b ≤ b + n := by
  intro n
  induction n with
  | zero =>
    rintro b ⟨c, h1, h2, h3⟩
    have e : c = b := by omega
    subst e
    exact ⟨h3, Nat.le_refl _⟩
  | succ n ih =>
    rintro b ⟨c, h1, h2, h3⟩
    show cf_in σ (if cf_in σ b = 0 then b else cf_ff σ n (b + 1)) = 0 ∧ (if cf_in σ b = 0 then b else cf_ff σ n (b + 1)) ≤ b + (n + 1)
    by_cases q : cf_in σ b = 0
    · rw [if_pos q]; exact ⟨q, by omega⟩
    · rw [if_neg q]
      have hc : c ≠ b := fun e => q (by rw [← e]; exact h3)
      obtain ⟨a1, a2⟩ := ih (b + 1) ⟨c, by omega, by omega, h3⟩
      exact ⟨a1, by omega⟩
/-- a block that isn't in use is found -/
theorem cf_fr_0 {σ : hs_S} (hb : σ 5 0 < 8) : cf_in σ (cf_fr σ) = 0 ∧ cf_fr σ < 8 := by
  have hex : ∃ c, 0 ≤ c ∧ c ≤ 0 + 7 ∧ cf_in σ c = 0 := by
    apply Classical.byContradiction
    intro hn
    have h1 : ∀ c, c < 8 → ∃ i, i < σ 5 0 ∧ σ 6 i = c := by
      intro c hc
      apply Classical.byContradiction
      intro hq
      exact hn ⟨c, Nat.zero_le _, by omega, cf_in_0.mpr (fun j hj e => hq ⟨j, hj, e⟩)⟩
    have h2 : ∀ c, ∃ i, c < 8 → i < σ 5 0 ∧ σ 6 i = c := by
      intro c
      by_cases hc : c < 8
      · obtain ⟨i, hi⟩ := h1 c hc
        exact ⟨i, fun _ => hi⟩
      · exact ⟨0, fun q => absurd q hc⟩
    have h3 := pg_le (q := 8) (N := σ 5 0) (Q := fun c => Classical.choose (h2 c)) (fun c hc => (Classical.choose_spec (h2 c) hc).1) (fun j k hjk hk e => by
      have e1 := (Classical.choose_spec (h2 j) (by omega)).2
      have e2 := (Classical.choose_spec (h2 k) hk).2
      have e : Classical.choose (h2 j) = Classical.choose (h2 k) := e
      rw [e, e2] at e1
      omega)
    omega
  obtain ⟨h1, h2⟩ := cf_ff_0 σ 7 0 hex
  exact ⟨h1, by unfold cf_fr; omega⟩
theorem bp_b0 {σ : hs_S} (ho : hv_o σ) (hu : hv_u σ) (hr : σ 8 0 < 8 ∨ σ 5 0 < 8) :
    (8 ≤ σ 8 0 → ck_open σ) ∧ hv_o (cf_b0 σ) ∧ hv_u (cf_b0 σ) ∧ cf_b0 σ 8 0 < 8 ∧ (∀ k, k ≠ 5 → k ≠ 6 → k ≠ 8 → k ≠ 9 → cf_b0 σ k = σ k) ∧ (∀ i, i < σ 5 0 → cf_b0 σ 6 i = σ 6 i) ∧ (∀ b, cf_b0 σ 9 b = σ 9 b ∨ (cf_b0 σ 9 b = 0 ∧ ∀ i, i < σ 5 0 → σ 6 i ≠ b)) ∧ ((cf_b0 σ 5 0 = σ 5 0 ∧ cf_b0 σ 8 0 = σ 8 0 ∧ σ 8 0 < 8) ∨ (σ 8 0 = 8 ∧ cf_b0 σ 5 0 = σ 5 0 + 1 ∧ cf_b0 σ 8 0 = 0)) := by
  by_cases h8 : σ 8 0 < 8
  · have e : cf_b0 σ = σ := if_pos h8
    rw [e]
    exact ⟨fun q => by omega, ho, hu, h8, fun _ _ _ _ _ => rfl, fun _ _ => rfl, fun _ => Or.inl rfl, Or.inl ⟨rfl, rfl, h8⟩⟩
  · have h5 : σ 5 0 < 8 := by omega
    obtain ⟨f1, f2⟩ := cf_fr_0 h5
    have f3 := cf_in_0.mp f1
    have e : cf_b0 σ = hs_st (hs_st (hs_st (hs_st σ 6 (σ 5 0) (cf_fr σ)) 5 0 (σ 5 0 + 1)) 8 0 0) 9 (cf_fr σ) 0 := (if_neg h8).trans (if_pos f1)
    have e6 : ∀ i, cf_b0 σ 6 i = if i = σ 5 0 then cf_fr σ else σ 6 i := by intro i; rw [e]; rfl
    have e5 : cf_b0 σ 5 0 = σ 5 0 + 1 := by rw [e]; rfl
    have e8 : cf_b0 σ 8 0 = 0 := by rw [e]; rfl
    have e9 : ∀ b, cf_b0 σ 9 b = if b = cf_fr σ then 0 else σ 9 b := by intro b; rw [e]; rfl
    have eo : ∀ k, k ≠ 5 → k ≠ 6 → k ≠ 8 → k ≠ 9 → cf_b0 σ k = σ k := by
      intro k a b c d
      rw [e, hs_fn _ _ _ d, hs_fn _ _ _ c, hs_fn _ _ _ a, hs_fn _ _ _ b]
    have hko : ck_open σ := ⟨h5, ho.2.2.1⟩
    have h8e : σ 8 0 = 8 := by have := ho.2.2.2.2; omega
    generalize cf_b0 σ = π at e6 e5 e8 e9 eo
    generalize cf_fr σ = c at e6 e9 f2 f3
    refine ⟨fun _ => hko, ⟨by omega, by omega, fun i hi => ?_, fun i j hij hj => ?_, by omega⟩, ⟨fun s hs => ?_, fun s hs hs1 => ?_⟩, by omega, eo, fun i hi => ?_, fun b => ?_, Or.inr ⟨h8e, e5, e8⟩⟩
    · rw [e6]
      split
      · exact f2
      · exact ho.2.2.1 i hi
    · rw [e5] at hj
      rw [e6, e6, if_neg (show ¬ i = σ 5 0 by omega)]
      split
      · exact f3 i (by omega)
      · exact ho.2.2.2.1 i j hij (by omega)
    · rw [eo 2 (by decide) (by decide) (by decide) (by decide)]; exact hu.1 s hs
    · rw [eo 2 (by decide) (by decide) (by decide) (by decide)] at hs1
      obtain ⟨i, h1, h2, h3⟩ := hu.2 s hs hs1
      refine ⟨i, by omega, ?_, fun q => by omega⟩
      rw [e6, if_neg (show ¬ i = σ 5 0 by omega)]; exact h2
    · rw [e6, if_neg (show ¬ i = σ 5 0 by omega)]
    · by_cases q : b = c
      · refine Or.inr ⟨by rw [e9, if_pos q], fun i hi => ?_⟩
        rw [q]; exact f3 i hi
      · exact Or.inl (by rw [e9, if_neg q])
theorem bp_bump {σ : hs_S} (ho : hv_o σ) (hu : hv_u σ) (hr : σ 8 0 < 8 ∨ σ 5 0 < 8) :
    ck_bump σ ∧ hv_o (cf_bump σ) ∧ hv_u (cf_bump σ) ∧ cf_bs σ < 64 ∧ σ 2 (cf_bs σ) = 0 ∧ (∀ s, cf_bump σ 2 s = if s = cf_bs σ then 1 else σ 2 s) ∧ (∀ k, k ≠ 2 → k ≠ 5 → k ≠ 6 → k ≠ 8 → k ≠ 9 → cf_bump σ k = σ k) ∧ (∀ i, i < σ 5 0 → cf_bump σ 6 i = σ 6 i) ∧ (∀ b, cf_bump σ 9 b = σ 9 b ∨ (cf_bump σ 9 b = 0 ∧ ∀ i, i < σ 5 0 → σ 6 i ≠ b)) ∧ cf_bs σ / 8 = cf_bump σ 6 (cf_bump σ 5 0 - 1) ∧ ((cf_bump σ 5 0 = σ 5 0 ∧ cf_bump σ 8 0 = σ 8 0 + 1 ∧ σ 8 0 < 8) ∨ (σ 8 0 = 8 ∧ cf_bump σ 5 0 = σ 5 0 + 1 ∧ cf_bump σ 8 0 = 1)) := by
  obtain ⟨p1, p2, p3, p4, p5, p6, p7, p8⟩ := bp_b0 ho hu hr
  have e2 : ∀ s, cf_bump σ 2 s = if s = cf_bs σ then 1 else cf_b0 σ 2 s := fun s => rfl
  have e5 : cf_bump σ 5 0 = cf_b0 σ 5 0 := rfl
  have e6 : ∀ i, cf_bump σ 6 i = cf_b0 σ 6 i := fun i => rfl
  have e8 : cf_bump σ 8 0 = cf_b0 σ 8 0 + 1 := rfl
  have e9 : ∀ i, cf_bump σ 9 i = cf_b0 σ 9 i := fun i => rfl
  have eo : ∀ k, k ≠ 2 → k ≠ 5 → k ≠ 6 → k ≠ 8 → k ≠ 9 → cf_bump σ k = cf_b0 σ k := by
    intro k a b c d f
    show hs_st (hs_st (cf_b0 σ) 8 0 (cf_b0 σ 8 0 + 1)) 2 (cf_bs σ) 1 k = _
    rw [hs_fn _ _ _ a, hs_fn _ _ _ d]
  have es : cf_bs σ = cf_b0 σ 6 (cf_b0 σ 5 0 - 1) * 8 + cf_b0 σ 8 0 := rfl
  have hck : cf_bs σ < 64 → ck_bump σ := fun q => ⟨by have := ho.2.2.2.2; omega, p1, p2.1, p2.2.1, q⟩
  have h0 := p5 2 (by decide) (by decide) (by decide) (by decide)
  generalize cf_bump σ = β at e2 e5 e6 e8 e9 eo
  generalize cf_bs σ = t at e2 es hck
  generalize cf_b0 σ = π at p2 p3 p4 p5 p6 p7 p8 e2 e5 e6 e8 e9 eo es h0
  have hy := p2.2.2.1 (π 5 0 - 1) (by have := p2.1; have := p2.2.1; omega)
  have hy1 := p2.1
  have t64 : t < 64 := by omega
  have t8 : t / 8 = π 6 (π 5 0 - 1) := by omega
  have t9 : t % 8 = π 8 0 := by omega
  have tu : π 2 t = 0 := by
    apply Classical.byContradiction
    intro q
    have q1 : π 2 t = 1 := by have := p3.1 t t64; omega
    obtain ⟨i, h1, h2, h3⟩ := p3.2 t t64 q1
    have ei := hv_inj p2 h1 (j := π 5 0 - 1) (by omega) (by rw [h2, t8])
    have := h3 ei
    omega
  refine ⟨hck t64, ⟨by omega, by have := p2.2.1; omega, fun i hi => ?_, fun i j hij hj => ?_, by omega⟩, ⟨fun s hs => ?_, fun s hs hs1 => ?_⟩, t64, by rw [← h0]; exact tu, fun s => by rw [e2, h0], fun k a b c d f => ?_, fun i hi => ?_, fun b => ?_, by rw [e6, e5]; exact t8, ?_⟩
  · rw [e6]; exact p2.2.2.1 i hi
  · rw [e6, e6]; rw [e5] at hj; exact p2.2.2.2.1 i j hij hj
  · rw [e2]
    split
    · exact Nat.le_refl _
    · exact p3.1 s hs
  · rw [e2] at hs1
    by_cases q : s = t
    · refine ⟨π 5 0 - 1, by omega, by rw [e6, q]; exact t8.symm, fun _ => ?_⟩
      rw [e8, q]; omega
    · rw [if_neg q] at hs1
      obtain ⟨i, h1, h2, h3⟩ := p3.2 s hs hs1
      refine ⟨i, by omega, by rw [e6]; exact h2, fun q2 => ?_⟩
      rw [e5] at q2
      have := h3 q2
      omega
  · rw [eo k a b c d f]; exact p5 k b c d f
  · rw [e6]; exact p6 i hi
  · rw [e9]; exact p7 b
  · rw [e5, e8]
    rcases p8 with ⟨a, b, c⟩ | ⟨a, b, c⟩
    · exact Or.inl ⟨a, by omega, c⟩
    · exact Or.inr ⟨a, b, by omega⟩
-- ===== the whole invariant =====
def HV (σ : hs_S) : Prop :=
  hv_o σ ∧ σ 5 0 ≤ 7 ∧ hv_u σ ∧ (∀ r, r < 8 → σ 1 r ≤ 64 ∧ ∀ s, σ 1 r = s + 1 → σ 2 s = 1) ∧ (∀ s, s < 64 → σ 2 s = 1 → ∀ f, f < 3 → σ 4 (s * 3 + f) ≤ 64 ∧ ∀ t, σ 4 (s * 3 + f) = t + 1 → σ 2 t = 1 ∧ (σ 9 (t / 8)).testBit s = true) ∧ (∀ b, b < 8 → σ 9 b < 18446744073709551616) ∧ 1 ≤ σ 0 0 ∧ σ 0 0 ≤ 8 ∧ σ 7 0 ≤ 8
theorem HV_w {σ : hs_S} (h : HV σ) {Z : Nat → Prop} : ∀ {n s : Nat}, gr_w (gr_c σ) Z n s → s < 64 ∧ σ 2 s = 1 := by
  intro n
  induction n with
  | zero =>
    intro s hw
    obtain ⟨r, h1, _, h3⟩ := hw
    obtain ⟨h4, h5⟩ := h.2.2.2.1 r h1
    have h3 : σ 1 r = s + 1 := h3
    exact ⟨by omega, h5 s h3⟩
  | succ n ih =>
    intro s hw
    obtain ⟨t, f, h1, h2, h3⟩ := hw
    obtain ⟨a, b⟩ := ih h1
    obtain ⟨h4, h5⟩ := h.2.2.2.2.1 t a b f h2
    have h3 : σ 4 (t * 3 + f) = s + 1 := h3
    exact ⟨by omega, (h5 s h3).1⟩
theorem HV_fit {σ : hs_S} (h : HV σ) : gr_fit (gr_c σ) := by
  refine ⟨fun r hr => (h.2.2.2.1 r hr).1, fun s hs f hf => ?_⟩
  obtain ⟨n, hn⟩ := hs
  obtain ⟨a, b⟩ := HV_w h hn
  exact (h.2.2.2.2.1 s a b f hf).1
theorem HV_wk {σ υ : hs_S} (h : HV σ) (hf : wk_f σ υ) : HV υ := by
  unfold HV hv_o hv_u
  rw [hf 0 (by decide) (by decide) (by decide), hf 1 (by decide) (by decide) (by decide), hf 2 (by decide) (by decide) (by decide), hf 4 (by decide) (by decide) (by decide), hf 5 (by decide) (by decide) (by decide), hf 6 (by decide) (by decide) (by decide), hf 7 (by decide) (by decide) (by decide), hf 8 (by decide) (by decide) (by decide), hf 9 (by decide) (by decide) (by decide)]
  exact h
end
section
set_option maxRecDepth 100000
-- ===== a collection of block b, begun at σ, now at τ =====
/-- what a reference v has become -/
def gc_fw (b : Nat) (τ : hs_S) (v x : Nat) : Prop := x = v ∨ ∃ o t, v = o + 1 ∧ o < 64 ∧ o / 8 = b ∧ τ 10 o = t + 1 ∧ x = t + 1
/-- t is where the object of s lies -/
def gc_mu (σ : hs_S) (b : Nat) (τ : hs_S) (t s : Nat) : Prop := (t = s ∧ s < 64 ∧ s / 8 ≠ b ∧ σ 2 s = 1) ∨ (s < 64 ∧ s / 8 = b ∧ τ 10 s = t + 1)
def gc_A (σ τ : hs_S) : Prop := hv_o τ ∧ hv_u τ ∧ (∀ i, i < σ 5 0 → τ 6 i = σ 6 i) ∧ ((τ 5 0 = σ 5 0 ∧ τ 8 0 = σ 8 0 + τ 11 0) ∨ (τ 5 0 = σ 5 0 + 1 ∧ τ 8 0 + 8 = σ 8 0 + τ 11 0)) ∧ τ 0 = σ 0 ∧ τ 7 = σ 7
def gc_B (σ : hs_S) (b : Nat) (τ : hs_S) : Prop :=
  (∀ o t, o < 64 → o / 8 = b → τ 10 o = t + 1 → t < 64 ∧ t / 8 ≠ b ∧ σ 2 t = 0 ∧ τ 2 t = 1 ∧ σ 2 o = 1 ∧ ∃ i, i < τ 11 0 ∧ τ 12 i = t) ∧
  (∀ o o' t, o < 64 → o' < 64 → o / 8 = b → o' / 8 = b → τ 10 o = t + 1 → τ 10 o' = t + 1 → o = o') ∧
  (∀ i, i < τ 11 0 → ∃ o, o < 64 ∧ o / 8 = b ∧ τ 10 o = τ 12 i + 1) ∧
  (∀ i j, i < j → j < τ 11 0 → τ 12 i ≠ τ 12 j) ∧
  (∀ s, s < 64 → σ 2 s = 1 → τ 2 s = 1) ∧
  (∀ s, s < 64 → τ 2 s = 1 → σ 2 s = 1 ∨ ∃ o, o < 64 ∧ o / 8 = b ∧ τ 10 o = s + 1)
def gc_D (σ : hs_S) (b : Nat) (τ : hs_S) : Prop :=
  (∀ t s, gc_mu σ b τ t s → τ 3 t = σ 3 s ∧ ∀ f, f < 3 → gc_fw b τ (σ 4 (s * 3 + f)) (τ 4 (t * 3 + f))) ∧
  (∀ o, o < 64 → o / 8 = b → σ 2 o = 1 → τ 3 o = σ 3 o ∧ ∀ f, f < 3 → τ 4 (o * 3 + f) = σ 4 (o * 3 + f)) ∧
  (∀ r, r < 8 → gc_fw b τ (σ 1 r) (τ 1 r))
def gc_R (σ : hs_S) (b : Nat) (τ : hs_S) (C : Nat → Nat → Prop) : Prop :=
  (∀ t s f, gc_mu σ b τ t s → f < 3 → (s / 8 ≠ b ∨ C t f) → ∀ x, τ 4 (t * 3 + f) = x + 1 → (τ 9 (x / 8)).testBit t = true) ∧
  (∀ t f, C t f → t < 64 ∧ τ 2 t = 1 ∧ (f < 3 → ∀ x, τ 4 (t * 3 + f) = x + 1 → x / 8 ≠ b)) ∧
  (∀ s, (σ 9 b).testBit s = true → (τ 9 b).testBit s = true) ∧ (∀ c, c < 8 → τ 9 c < 18446744073709551616)
def gc_I (σ : hs_S) (b : Nat) (τ : hs_S) (C : Nat → Nat → Prop) : Prop := gc_A σ τ ∧ gc_B σ b τ ∧ gc_D σ b τ ∧ gc_R σ b τ C
/-- the collection goes on -/
def gc_mo (τ τ' : hs_S) : Prop := (∀ o t, τ 10 o = t + 1 → τ' 10 o = t + 1) ∧ τ 11 0 ≤ τ' 11 0 ∧ (∀ i, i < τ 11 0 → τ' 12 i = τ 12 i) ∧ (∀ s, τ 2 s = 1 → τ' 2 s = 1) ∧ τ' 1 = τ 1
theorem gc_mo_rf (τ : hs_S) : gc_mo τ τ := ⟨fun _ _ h => h, Nat.le_refl _, fun _ _ => rfl, fun _ h => h, rfl⟩
theorem gc_mo_tr {a b c : hs_S} (h : gc_mo a b) (h' : gc_mo b c) : gc_mo a c :=
  ⟨fun o t q => h'.1 o t (h.1 o t q), Nat.le_trans h.2.1 h'.2.1, fun i hi => (h'.2.2.1 i (Nat.lt_of_lt_of_le hi h.2.1)).trans (h.2.2.1 i hi), fun s q => h'.2.2.2.1 s (h.2.2.2.1 s q), h'.2.2.2.2.trans h.2.2.2.2⟩
theorem gc_mo_mu {σ τ τ' : hs_S} {b t s : Nat} (h : gc_mo τ τ') (hm : gc_mu σ b τ t s) : gc_mu σ b τ' t s := by
  rcases hm with q | ⟨q1, q2, q3⟩
  · exact Or.inl q
  · exact Or.inr ⟨q1, q2, h.1 s t q3⟩
theorem gc_mo_fw {τ τ' : hs_S} {b v x : Nat} (h : gc_mo τ τ') (hm : gc_fw b τ v x) : gc_fw b τ' v x := by
  rcases hm with q | ⟨o, t, q1, q2, q3, q4, q5⟩
  · exact Or.inl q
  · exact Or.inr ⟨o, t, q1, q2, q3, h.1 o t q4, q5⟩
theorem gc_A_cg {σ τ τ' : hs_S} (h0 : τ' 0 = τ 0) (h2 : τ' 2 = τ 2) (h5 : τ' 5 = τ 5) (h6 : τ' 6 = τ 6) (h7 : τ' 7 = τ 7) (h8 : τ' 8 = τ 8) (h11 : τ' 11 = τ 11) (A : gc_A σ τ) : gc_A σ τ' := by
  unfold gc_A hv_o hv_u
  rw [h0, h2, h5, h6, h7, h8, h11]
  exact A
theorem gc_B_cg {σ τ τ' : hs_S} {b : Nat} (h2 : τ' 2 = τ 2) (h10 : τ' 10 = τ 10) (h11 : τ' 11 = τ 11) (h12 : τ' 12 = τ 12) (B : gc_B σ b τ) : gc_B σ b τ' := by
  unfold gc_B
  rw [h2, h10, h11, h12]
  exact B
theorem gc_mu_cg {σ τ τ' : hs_S} {b t s : Nat} (h10 : τ' 10 = τ 10) : gc_mu σ b τ' t s ↔ gc_mu σ b τ t s := by
  unfold gc_mu
  rw [h10]
theorem gc_fw_cg {τ τ' : hs_S} {b v x : Nat} (h10 : τ' 10 = τ 10) : gc_fw b τ' v x ↔ gc_fw b τ v x := by
  unfold gc_fw
  rw [h10]
theorem gc_R_cg {σ τ τ' : hs_S} {b : Nat} {C : Nat → Nat → Prop} (h2 : τ' 2 = τ 2) (h4 : τ' 4 = τ 4) (h9 : τ' 9 = τ 9) (h10 : τ' 10 = τ 10) (R : gc_R σ b τ C) : gc_R σ b τ' C := by
  unfold gc_R gc_mu
  rw [h2, h4, h9, h10]
  exact R
theorem gc_R_sub {σ τ : hs_S} {b : Nat} {C C' : Nat → Nat → Prop} (hs : ∀ t f, C' t f → C t f) (R : gc_R σ b τ C) : gc_R σ b τ C' :=
  ⟨fun t s f hm hf hc => R.1 t s f hm hf (hc.elim Or.inl (fun q => Or.inr (hs t f q))), fun t f hc => R.2.1 t f (hs t f hc), R.2.2⟩
theorem gc_mu_b {σ τ : hs_S} {b t s : Nat} (B : gc_B σ b τ) (hm : gc_mu σ b τ t s) : t < 64 ∧ s < 64 ∧ t / 8 ≠ b ∧ τ 2 t = 1 ∧ σ 2 s = 1 := by
  rcases hm with ⟨q1, q2, q3, q4⟩ | ⟨q1, q2, q3⟩
  · subst q1
    exact ⟨q2, q2, q3, B.2.2.2.2.1 t q2 q4, q4⟩
  · obtain ⟨a1, a2, a3, a4, a5, a6⟩ := B.1 s t q1 q2 q3
    exact ⟨a1, q1, a2, a4, a5⟩
theorem gc_mu_inj {σ τ : hs_S} {b t s s' : Nat} (B : gc_B σ b τ) (hm : gc_mu σ b τ t s) (hm' : gc_mu σ b τ t s') : s = s' := by
  rcases hm with ⟨q1, q2, q3, q4⟩ | ⟨q1, q2, q3⟩ <;> rcases hm' with ⟨p1, p2, p3, p4⟩ | ⟨p1, p2, p3⟩
  · omega
  · have := (B.1 s' t p1 p2 p3).2.2.1
    rw [q1] at this
    omega
  · have := (B.1 s t q1 q2 q3).2.2.1
    rw [p1] at this
    omega
  · exact B.2.1 s s' t q1 p1 q2 p2 q3 p3
theorem gc_mu_fun {σ τ : hs_S} {b t t' s : Nat} (hm : gc_mu σ b τ t s) (hm' : gc_mu σ b τ t' s) : t = t' := by
  rcases hm with ⟨q1, q2, q3, q4⟩ | ⟨q1, q2, q3⟩ <;> rcases hm' with ⟨p1, p2, p3, p4⟩ | ⟨p1, p2, p3⟩
  · omega
  · omega
  · omega
  · omega
/-- where a moved reference points -/
theorem gc_tgt {σ τ : hs_S} {b v x : Nat} (B : gc_B σ b τ) (hv : ∀ y, v = y + 1 → y < 64 ∧ σ 2 y = 1) (hf : gc_fw b τ v (x + 1)) : x < 64 ∧ τ 2 x = 1 := by
  rcases hf with q | ⟨o, t, q1, q2, q3, q4, q5⟩
  · obtain ⟨a, c⟩ := hv x q.symm
    exact ⟨a, B.2.2.2.2.1 x a c⟩
  · obtain ⟨a1, _, _, a4, _⟩ := B.1 o t q2 q3 q4
    have e : x = t := by omega
    rw [e]
    exact ⟨a1, a4⟩
theorem HV_fv {σ : hs_S} (hV : HV σ) {s f : Nat} (hs : s < 64) (h1 : σ 2 s = 1) (hf : f < 3) : ∀ y, σ 4 (s * 3 + f) = y + 1 → y < 64 ∧ σ 2 y = 1 := by
  intro y hy
  obtain ⟨a, c⟩ := hV.2.2.2.2.1 s hs h1 f hf
  exact ⟨by omega, (c y hy).1⟩
theorem HV_rv {σ : hs_S} (hV : HV σ) {r : Nat} (hr : r < 8) : ∀ y, σ 1 r = y + 1 → y < 64 ∧ σ 2 y = 1 := by
  intro y hy
  obtain ⟨a, c⟩ := hV.2.2.2.1 r hr
  exact ⟨by omega, c y hy⟩
/-- a reference that still lies in the block is as it was -/
theorem gc_old {σ τ : hs_S} {b v x : Nat} (B : gc_B σ b τ) (hf : gc_fw b τ v (x + 1)) (hx : x / 8 = b) : v = x + 1 := by
  rcases hf with q | ⟨o, t, q1, q2, q3, q4, q5⟩
  · exact q.symm
  · have := (B.1 o t q2 q3 q4).2.1
    have e : x = t := by omega
    rw [e] at hx
    exact absurd hx this
theorem gc_8 {σ τ : hs_S} {b : Nat} (B : gc_B σ b τ) : τ 11 0 ≤ 8 := by
  have h2 : ∀ i, ∃ o, i < τ 11 0 → o < 64 ∧ o / 8 = b ∧ τ 10 o = τ 12 i + 1 := by
    intro i
    by_cases hi : i < τ 11 0
    · obtain ⟨o, ho⟩ := B.2.2.1 i hi
      exact ⟨o, fun _ => ho⟩
    · exact ⟨0, fun q => absurd q hi⟩
  refine pg_le (q := τ 11 0) (N := 8) (Q := fun i => Classical.choose (h2 i) % 8) (fun j _ => Nat.mod_lt _ (by decide)) (fun j k hjk hk e => ?_)
  obtain ⟨a1, a2, a3⟩ := Classical.choose_spec (h2 j) (by omega)
  obtain ⟨c1, c2, c3⟩ := Classical.choose_spec (h2 k) hk
  have e : Classical.choose (h2 j) % 8 = Classical.choose (h2 k) % 8 := e
  have e2 : Classical.choose (h2 j) = Classical.choose (h2 k) := by omega
  rw [e2, c3] at a3
  exact B.2.2.2.1 j k hjk hk (by omega)
theorem gc_lt8 {σ τ : hs_S} {b o : Nat} (B : gc_B σ b τ) (ho : o < 64) (hob : o / 8 = b) (h0 : τ 10 o = 0) : τ 11 0 < 8 := by
  have h2 : ∀ i, ∃ o, i < τ 11 0 → o < 64 ∧ o / 8 = b ∧ τ 10 o = τ 12 i + 1 := by
    intro i
    by_cases hi : i < τ 11 0
    · obtain ⟨o, ho⟩ := B.2.2.1 i hi
      exact ⟨o, fun _ => ho⟩
    · exact ⟨0, fun q => absurd q hi⟩
  refine pg_lt (q := τ 11 0) (N := 8) (Q := fun i => Classical.choose (h2 i) % 8) (fun j _ => Nat.mod_lt _ (by decide)) (fun j k hjk hk e => ?_) (x := o % 8) (Nat.mod_lt _ (by decide)) (fun j hj e => ?_)
  · obtain ⟨a1, a2, a3⟩ := Classical.choose_spec (h2 j) (by omega)
    obtain ⟨c1, c2, c3⟩ := Classical.choose_spec (h2 k) hk
    have e : Classical.choose (h2 j) % 8 = Classical.choose (h2 k) % 8 := e
    have e2 : Classical.choose (h2 j) = Classical.choose (h2 k) := by omega
    rw [e2, c3] at a3
    exact B.2.2.2.1 j k hjk hk (by omega)
  · obtain ⟨a1, a2, a3⟩ := Classical.choose_spec (h2 j) hj
    have e : Classical.choose (h2 j) % 8 = o % 8 := e
    have e2 : Classical.choose (h2 j) = o := by omega
    rw [e2] at a3
    omega
/-- the three fields are copied -/
theorem gc_cp {t o : Nat} (u : hs_S) (hto : t ≠ o) : (∀ f, f < 3 → it_f (cf_cp t o) 3 0 u 4 (t * 3 + f) = u 4 (o * 3 + f)) ∧ (∀ j, (j < t * 3 ∨ t * 3 + 3 ≤ j) → it_f (cf_cp t o) 3 0 u 4 j = u 4 j) ∧ ∀ k, k ≠ 4 → it_f (cf_cp t o) 3 0 u k = u k := by
  refine it_inv0 (f := cf_cp t o) (N := 3) (fun f v => (∀ f', f' < f → v 4 (t * 3 + f') = u 4 (o * 3 + f')) ∧ (∀ j, (j < t * 3 ∨ t * 3 + 3 ≤ j) → v 4 j = u 4 j) ∧ ∀ k, k ≠ 4 → v k = u k) (fun f v hf I => ?_) u ⟨fun f' hf' => absurd hf' (Nat.not_lt_zero _), fun _ _ => rfl, fun _ _ => rfl⟩
  obtain ⟨i1, i2, i3⟩ := I
  refine ⟨fun f' hf' => ?_, fun j hj => ?_, fun k hk => ?_⟩
  · show hs_st v 4 (t * 3 + f) (v 4 (o * 3 + f)) 4 (t * 3 + f') = _
    rw [hs_if]
    by_cases q : f' = f
    · subst q
      rw [if_pos rfl]
      exact i2 _ (by omega)
    · rw [if_neg (by omega)]
      exact i1 f' (by omega)
  · show hs_st v 4 (t * 3 + f) (v 4 (o * 3 + f)) 4 j = _
    rw [hs_if, if_neg (by omega)]
    exact i2 j hj
  · show hs_st v 4 (t * 3 + f) (v 4 (o * 3 + f)) k = _
    rw [hs_fn _ _ _ hk]
    exact i3 k hk
end
section
set_option maxRecDepth 100000
set_option maxHeartbeats 2000000 in
/-- an object of the block is copied -/
theorem gc_new {σ τ ε : hs_S} {b w o t : Nat} {C : Nat → Nat → Prop} (hV : HV σ) (hw : w + 1 < σ 5 0) (hb : σ 6 w = b) (I : gc_I σ b τ C) (ho : o < 64) (hob : o / 8 = b) (ho1 : σ 2 o = 1) (ho0 : τ 10 o = 0)
    (vo : hv_o ε) (vu : hv_u ε) (t64 : t < 64) (tu : τ 2 t = 0) (e2 : ∀ s, ε 2 s = if s = t then 1 else τ 2 s) (e6 : ∀ i, i < τ 5 0 → ε 6 i = τ 6 i) (e9 : ∀ c, ε 9 c = τ 9 c ∨ (ε 9 c = 0 ∧ ∀ i, i < τ 5 0 → τ 6 i ≠ c)) (et : t / 8 = ε 6 (ε 5 0 - 1))
    (e58 : (ε 5 0 = τ 5 0 ∧ ε 8 0 = τ 8 0 + 1 ∧ τ 8 0 < 8) ∨ (τ 8 0 = 8 ∧ ε 5 0 = τ 5 0 + 1 ∧ ε 8 0 = 1))
    (e0 : ε 0 = τ 0) (e7 : ε 7 = τ 7) (e1 : ε 1 = τ 1) (e3 : ∀ s, ε 3 s = if s = t then τ 3 o else τ 3 s) (e4 : ∀ f, f < 3 → ε 4 (t * 3 + f) = τ 4 (o * 3 + f)) (e4' : ∀ j, (j < t * 3 ∨ t * 3 + 3 ≤ j) → ε 4 j = τ 4 j)
    (e10 : ∀ s, ε 10 s = if s = o then t + 1 else τ 10 s) (e11 : ε 11 0 = τ 11 0 + 1) (e12 : ∀ i, ε 12 i = if i = τ 11 0 then t else τ 12 i) :
    gc_I σ b ε C ∧ gc_mo τ ε := by
  obtain ⟨A, B, D, R⟩ := I
  have c8 := gc_lt8 B ho hob ho0
  have m10 : ∀ o' t', τ 10 o' = t' + 1 → ε 10 o' = t' + 1 := by
    intro o' t' h
    have hne : o' ≠ o := fun q => by rw [q] at h; omega
    rw [e10, if_neg hne]; exact h
  have m2 : ∀ s, τ 2 s = 1 → ε 2 s = 1 := by
    intro s h
    rw [e2]
    split
    · rfl
    · exact h
  have hmo : gc_mo τ ε := ⟨m10, by omega, fun i hi => by rw [e12, if_neg (by omega)], m2, e1⟩
  have s5 : σ 5 0 ≤ τ 5 0 := by rcases A.2.2.2.1 with q | q <;> omega
  have t5 : τ 5 0 ≤ ε 5 0 := by rcases e58 with q | q <;> omega
  have bw : τ 6 w = b := by rw [A.2.2.1 w (by omega)]; exact hb
  have tb : t / 8 ≠ b := by
    intro q
    have h1 : ε 6 w = b := by rw [e6 w (by omega)]; exact bw
    exact vo.2.2.2.1 w (ε 5 0 - 1) (by omega) (by omega) (by rw [h1, ← et, q])
  have st : σ 2 t = 0 := by
    apply Classical.byContradiction
    intro q
    have q1 : σ 2 t = 1 := by have := hV.2.2.1.1 t t64; omega
    have := B.2.2.2.2.1 t t64 q1
    omega
  have mt : ∀ t' s, gc_mu σ b τ t' s → t' ≠ t := by
    intro t' s hm q
    have := (gc_mu_b B hm).2.2.2.1
    rw [q] at this
    omega
  have mi : ∀ t' s, gc_mu σ b ε t' s → gc_mu σ b τ t' s ∨ (t' = t ∧ s = o) := by
    intro t' s hm
    rcases hm with q | ⟨q1, q2, q3⟩
    · exact Or.inl (Or.inl q)
    · by_cases es : s = o
      · rw [e10, if_pos es] at q3
        exact Or.inr ⟨by omega, es⟩
      · rw [e10, if_neg es] at q3
        exact Or.inl (Or.inr ⟨q1, q2, q3⟩)
  have f4 : ∀ t', t' ≠ t → ∀ f, f < 3 → ε 4 (t' * 3 + f) = τ 4 (t' * 3 + f) := fun t' h f hf => e4' _ (by omega)
  have hA : gc_A σ ε := by
    refine ⟨vo, vu, fun i hi => ?_, ?_, e0.trans A.2.2.2.2.1, e7.trans A.2.2.2.2.2⟩
    · rw [e6 i (by omega)]; exact A.2.2.1 i hi
    · have := A.2.2.2.1
      have := hV.2.1
      have := hV.1.2.2.2.2
      rw [e11]
      rcases e58 with q | q <;> omega
  have hB : gc_B σ b ε := by
    refine ⟨fun o' t' h1 h2 h3 => ?_, fun o1 o2 t' h1 h2 h3 h4 h5 h6 => ?_, fun i hi => ?_, fun i j hij hj => ?_, fun s hs h1 => m2 s (B.2.2.2.2.1 s hs h1), fun s hs h1 => ?_⟩
    · rw [e10] at h3
      by_cases q : o' = o
      · rw [if_pos q] at h3
        have et' : t' = t := by omega
        subst et'
        refine ⟨t64, tb, st, by rw [e2, if_pos rfl], by rw [q]; exact ho1, τ 11 0, by omega, by rw [e12, if_pos rfl]⟩
      · rw [if_neg q] at h3
        obtain ⟨a1, a2, a3, a4, a5, i, a6, a7⟩ := B.1 o' t' h1 h2 h3
        exact ⟨a1, a2, a3, m2 t' a4, a5, i, by omega, by rw [e12, if_neg (by omega)]; exact a7⟩
    · rw [e10] at h5 h6
      by_cases q1 : o1 = o
      · by_cases q2 : o2 = o
        · omega
        · rw [if_pos q1] at h5
          rw [if_neg q2] at h6
          have := (B.1 o2 t' h2 h4 h6).2.2.2.1
          have et' : t' = t := by omega
          rw [et'] at this
          omega
      · by_cases q2 : o2 = o
        · rw [if_neg q1] at h5
          rw [if_pos q2] at h6
          have := (B.1 o1 t' h1 h3 h5).2.2.2.1
          have et' : t' = t := by omega
          rw [et'] at this
          omega
        · rw [if_neg q1] at h5
          rw [if_neg q2] at h6
          exact B.2.1 o1 o2 t' h1 h2 h3 h4 h5 h6
    · rw [e11] at hi
      by_cases q : i = τ 11 0
      · exact ⟨o, ho, hob, by rw [e10, if_pos rfl, e12, if_pos q]⟩
      · obtain ⟨o', a1, a2, a3⟩ := B.2.2.1 i (by omega)
        exact ⟨o', a1, a2, by rw [e12, if_neg q]; exact m10 o' _ a3⟩
    · rw [e11] at hj
      rw [e12, e12, if_neg (show ¬ i = τ 11 0 by omega)]
      split
      · intro q
        obtain ⟨o', a1, a2, a3⟩ := B.2.2.1 i (by omega)
        have := (B.1 o' _ a1 a2 a3).2.2.2.1
        rw [q] at this
        omega
      · exact B.2.2.2.1 i j hij (by omega)
    · rw [e2] at h1
      by_cases q : s = t
      · exact Or.inr ⟨o, ho, hob, by rw [e10, if_pos rfl, q]⟩
      · rw [if_neg q] at h1
        rcases B.2.2.2.2.2 s hs h1 with a | ⟨o', a1, a2, a3⟩
        · exact Or.inl a
        · exact Or.inr ⟨o', a1, a2, m10 o' _ a3⟩
  refine ⟨⟨hA, hB, ⟨fun t' s hm => ?_, fun o' h1 h2 h3 => ?_, fun r hr => ?_⟩, ⟨fun t' s f hm hf hc x hx => ?_, fun t' f hc => ?_, fun s hs => ?_, fun c hc => ?_⟩⟩, hmo⟩
  · rcases mi t' s hm with q | ⟨q1, q2⟩
    · have hne := mt t' s q
      obtain ⟨a1, a2⟩ := D.1 t' s q
      refine ⟨by rw [e3, if_neg hne]; exact a1, fun f hf => ?_⟩
      rw [f4 t' hne f hf]
      exact gc_mo_fw hmo (a2 f hf)
    · subst q1
      subst q2
      obtain ⟨a1, a2⟩ := D.2.1 s ho hob ho1
      refine ⟨by rw [e3, if_pos rfl]; exact a1, fun f hf => Or.inl ?_⟩
      rw [e4 f hf]
      exact a2 f hf
  · have hne : o' ≠ t := fun q => tb (by rw [← q]; exact h2)
    obtain ⟨a1, a2⟩ := D.2.1 o' h1 h2 h3
    refine ⟨by rw [e3, if_neg hne]; exact a1, fun f hf => ?_⟩
    rw [f4 o' hne f hf]
    exact a2 f hf
  · rw [e1]
    exact gc_mo_fw hmo (D.2.2 r hr)
  · rcases mi t' s hm with q | ⟨q1, q2⟩
    · have hne := mt t' s q
      rw [f4 t' hne f hf] at hx
      have hbit := R.1 t' s f q hf hc x hx
      obtain ⟨_, b2, _, _, b5⟩ := gc_mu_b B q
      have hfw := (D.1 t' s q).2 f hf
      rw [hx] at hfw
      obtain ⟨x64, xu⟩ := gc_tgt B (HV_fv hV b2 b5 hf) hfw
      obtain ⟨i, i1, i2, _⟩ := A.2.1.2 x x64 xu
      rcases e9 (x / 8) with a | ⟨_, a⟩
      · rw [a]; exact hbit
      · exact absurd i2 (a i i1)
    · rcases hc with hc | hc
      · rw [q2] at hc
        exact absurd hob hc
      · have := (R.2.1 t' f hc).2.1
        rw [q1] at this
        omega
  · obtain ⟨a1, a2, a3⟩ := R.2.1 t' f hc
    have hne : t' ≠ t := fun q => by rw [q] at a2; omega
    refine ⟨a1, m2 t' a2, fun hf x hx => ?_⟩
    rw [f4 t' hne f hf] at hx
    exact a3 hf x hx
  · rcases e9 b with a | ⟨_, a⟩
    · rw [a]; exact R.2.2.1 s hs
    · exact absurd bw (a w (by omega))
  · rcases e9 c with a | ⟨a, _⟩
    · rw [a]; exact R.2.2.2 c hc
    · rw [a]; decide
theorem gc_evac {σ τ : hs_S} {b w o : Nat} {C : Nat → Nat → Prop} (hV : HV σ) (hw : w + 1 < σ 5 0) (hb : σ 6 w = b) (I : gc_I σ b τ C) (ho : o < 64) (hob : o / 8 = b) (ho1 : σ 2 o = 1) :
    ck_ev τ (o + 1) ∧ gc_I σ b (cf_ev τ (o + 1)) C ∧ gc_mo τ (cf_ev τ (o + 1)) ∧ ∃ t, cf_er τ (o + 1) = t + 1 ∧ cf_ev τ (o + 1) 10 o = t + 1 ∧ t < 64 ∧ t / 8 ≠ b := by
  have eo : o + 1 - 1 = o := by omega
  by_cases h0 : τ 10 o = 0
  · have c8 := gc_lt8 I.2.1 ho hob h0
    have hr : τ 8 0 < 8 ∨ τ 5 0 < 8 := by
      have := I.1.2.2.2.1
      have := hV.2.1
      have := hV.1.2.2.2.2
      omega
    obtain ⟨p1, p2, p3, p4, p5, p6, p7, p8, p9, p10, p11⟩ := bp_bump I.1.1 I.1.2.1 hr
    have h0' : τ 10 (o + 1 - 1) = 0 := by rw [eo]; exact h0
    have ev : cf_ev τ (o + 1) = cf_e4 τ (o + 1) := if_pos h0'
    have er : cf_er τ (o + 1) = cf_bs τ + 1 := if_pos h0'
    have hto : cf_bs τ ≠ o := by
      intro q
      have := I.2.1.2.2.2.2.1 o ho ho1
      rw [q] at p5
      omega
    obtain ⟨c1, c2, c3⟩ := gc_cp (t := cf_bs τ) (o := o) (cf_e1 τ (o + 1)) hto
    have d2 : it_f (cf_cp (cf_bs τ) o) 3 0 (cf_e1 τ (o + 1)) = cf_e2 τ (o + 1) := by unfold cf_e2; rw [eo]
    rw [d2] at c1 c2 c3
    have q11 : cf_e3 τ (o + 1) 11 0 = τ 11 0 := by
      show hs_st (cf_e2 τ (o + 1)) 10 (o + 1 - 1) (cf_bs τ + 1) 11 0 = _
      rw [hs_ne _ _ _ _ (by decide), c3 11 (by decide)]
      show hs_st (cf_bump τ) 3 _ _ 11 0 = _
      rw [hs_ne _ _ _ _ (by decide), p7 11 (by decide) (by decide) (by decide) (by decide) (by decide)]
    have hk : ck_ev τ (o + 1) := by
      refine ⟨by omega, by omega, by rw [h0']; decide, fun _ => ⟨p1, ?_⟩⟩
      rw [q11]; omega
    -- reading the new state
    have rd : ∀ k, k ≠ 10 → k ≠ 11 → k ≠ 12 → cf_e4 τ (o + 1) k = cf_e2 τ (o + 1) k := by
      intro k a1 a2 a3
      show hs_st (hs_st (hs_st (cf_e2 τ (o + 1)) 10 _ _) 12 _ _) 11 0 _ k = _
      rw [hs_fn _ _ _ a2, hs_fn _ _ _ a3, hs_fn _ _ _ a1]
    have rb : ∀ k, k ≠ 10 → k ≠ 11 → k ≠ 12 → k ≠ 4 → k ≠ 3 → cf_e4 τ (o + 1) k = cf_bump τ k := by
      intro k a1 a2 a3 a4 a5
      rw [rd k a1 a2 a3, c3 k a4]
      show hs_st (cf_bump τ) 3 _ _ k = _
      rw [hs_fn _ _ _ a5]
    have r2 := rb 2 (by decide) (by decide) (by decide) (by decide) (by decide)
    have r5 := rb 5 (by decide) (by decide) (by decide) (by decide) (by decide)
    have r6 := rb 6 (by decide) (by decide) (by decide) (by decide) (by decide)
    have r8 := rb 8 (by decide) (by decide) (by decide) (by decide) (by decide)
    have r9 := rb 9 (by decide) (by decide) (by decide) (by decide) (by decide)
    have rt : ∀ k, k ≠ 10 → k ≠ 11 → k ≠ 12 → k ≠ 4 → k ≠ 3 → k ≠ 2 → k ≠ 5 → k ≠ 6 → k ≠ 8 → k ≠ 9 → cf_e4 τ (o + 1) k = τ k := by
      intro k a1 a2 a3 a4 a5 a6 a7 a8 a9 a10
      rw [rb k a1 a2 a3 a4 a5, p7 k a6 a7 a8 a9 a10]
    have b3 : cf_bump τ 3 = τ 3 := p7 3 (by decide) (by decide) (by decide) (by decide) (by decide)
    have b4 : cf_bump τ 4 = τ 4 := p7 4 (by decide) (by decide) (by decide) (by decide) (by decide)
    have b10 : cf_bump τ 10 = τ 10 := p7 10 (by decide) (by decide) (by decide) (by decide) (by decide)
    have b12 : cf_bump τ 12 = τ 12 := p7 12 (by decide) (by decide) (by decide) (by decide) (by decide)
    have r3 : ∀ s, cf_e4 τ (o + 1) 3 s = if s = cf_bs τ then τ 3 o else τ 3 s := by
      intro s
      rw [rd 3 (by decide) (by decide) (by decide), c3 3 (by decide)]
      show hs_st (cf_bump τ) 3 (cf_bs τ) (cf_bump τ 3 (o + 1 - 1)) 3 s = _
      rw [hs_if, b3, eo]
    have e14 : cf_e1 τ (o + 1) 4 = τ 4 := by
      show hs_st (cf_bump τ) 3 _ _ 4 = _
      rw [hs_fn _ _ _ (by decide), b4]
    have r4 := rd 4 (by decide) (by decide) (by decide)
    have r10 : ∀ s, cf_e4 τ (o + 1) 10 s = if s = o then cf_bs τ + 1 else τ 10 s := by
      intro s
      show hs_st (hs_st (hs_st (cf_e2 τ (o + 1)) 10 (o + 1 - 1) (cf_bs τ + 1)) 12 _ _) 11 0 _ 10 s = _
      rw [hs_ne _ _ _ _ (by decide), hs_ne _ _ _ _ (by decide), hs_if, eo, c3 10 (by decide)]
      have : cf_e1 τ (o + 1) 10 = τ 10 := by
        show hs_st (cf_bump τ) 3 _ _ 10 = _
        rw [hs_fn _ _ _ (by decide), b10]
      rw [this]
    have r11 : cf_e4 τ (o + 1) 11 0 = τ 11 0 + 1 := by
      show hs_st _ 11 0 (cf_e3 τ (o + 1) 11 0 + 1) 11 0 = _
      rw [hs_same, q11]
    have r12 : ∀ i, cf_e4 τ (o + 1) 12 i = if i = τ 11 0 then cf_bs τ else τ 12 i := by
      intro i
      show hs_st (hs_st (cf_e3 τ (o + 1)) 12 (cf_e3 τ (o + 1) 11 0) (cf_bs τ)) 11 0 _ 12 i = _
      rw [hs_ne _ _ _ _ (by decide), hs_if, q11]
      have : cf_e3 τ (o + 1) 12 i = τ 12 i := by
        show hs_st (cf_e2 τ (o + 1)) 10 _ _ 12 i = _
        rw [hs_ne _ _ _ _ (by decide), c3 12 (by decide)]
        show hs_st (cf_bump τ) 3 _ _ 12 i = _
        rw [hs_ne _ _ _ _ (by decide), b12]
      rw [this]
    have vo : hv_o (cf_e4 τ (o + 1)) := by unfold hv_o; rw [r5, r6, r8]; exact p2
    have vu : hv_u (cf_e4 τ (o + 1)) := by unfold hv_u; rw [r2, r5, r6, r8]; exact p3
    obtain ⟨g1, g2⟩ := gc_new (ε := cf_e4 τ (o + 1)) (t := cf_bs τ) hV hw hb I ho hob ho1 h0 vo vu p4 p5 (fun s => by rw [r2]; exact p6 s) (fun i hi => by rw [r6]; exact p8 i hi) (fun c => by rw [r9]; exact p9 c) (by rw [r5, r6]; exact p10) (by rw [r5, r8]; exact p11)
      (rt 0 (by decide) (by decide) (by decide) (by decide) (by decide) (by decide) (by decide) (by decide) (by decide) (by decide)) (rt 7 (by decide) (by decide) (by decide) (by decide) (by decide) (by decide) (by decide) (by decide) (by decide) (by decide)) (rt 1 (by decide) (by decide) (by decide) (by decide) (by decide) (by decide) (by decide) (by decide) (by decide) (by decide))
      r3 (fun f hf => by rw [r4, c1 f hf, e14]) (fun j hj => by rw [r4, c2 j hj, e14]) r10 r11 r12
    rw [ev, er]
    have q10 : cf_e4 τ (o + 1) 10 o = cf_bs τ + 1 := by rw [r10, if_pos rfl]
    exact ⟨hk, g1, g2, cf_bs τ, rfl, q10, p4, (g1.2.1.1 o _ ho hob q10).2.1⟩
  · obtain ⟨t, et⟩ : ∃ t, τ 10 o = t + 1 := ⟨τ 10 o - 1, by omega⟩
    have h0' : ¬ τ 10 (o + 1 - 1) = 0 := by rw [eo]; exact h0
    have ev : cf_ev τ (o + 1) = τ := if_neg h0'
    have er : cf_er τ (o + 1) = τ 10 o := if_neg h0'
    obtain ⟨a1, a2, _⟩ := I.2.1.1 o t ho hob et
    rw [ev, er]
    refine ⟨⟨by omega, by omega, ?_, fun q => absurd q h0'⟩, I, gc_mo_rf _, t, et, et, a1, a2⟩
    rw [eo, et]
    omega
end
section
set_option maxRecDepth 100000
theorem hs_id (σ : hs_S) (k j : Nat) : hs_st σ k j (σ k j) = σ := by
  funext k' j'
  unfold hs_st
  by_cases h : k' = k
  · rw [if_pos h]
    by_cases h2 : j' = j
    · rw [if_pos h2, h, h2]
    · rw [if_neg h2]
  · rw [if_neg h]
theorem cf_rem_fn {σ : hs_S} {s r k : Nat} (h : k ≠ 9) : cf_rem σ s r k = σ k := by
  funext j
  exact cf_rem_ne h
theorem cf_rem_up {σ : hs_S} {s r c i : Nat} (h : (σ 9 c).testBit i = true) : (cf_rem σ s r 9 c).testBit i = true := by
  unfold cf_rem
  split
  · exact h
  · rw [hs_if]
    split
    · next e => rw [Nat.testBit_or, ← e, h, Bool.true_or]
    · exact h
theorem cf_rem_at {σ : hs_S} {s x : Nat} : (cf_rem σ s (x + 1) 9 (x / 8)).testBit s = true := by
  unfold cf_rem
  rw [if_neg (by omega), show x + 1 - 1 = x by omega, hs_same, Nat.testBit_or, Nat.testBit_two_pow_self, Bool.or_true]
theorem cf_rem_lt {σ : hs_S} {s r : Nat} (hs : s < 64) (h : ∀ c, c < 8 → σ 9 c < 18446744073709551616) : ∀ c, c < 8 → cf_rem σ s r 9 c < 18446744073709551616 := by
  intro c hc
  unfold cf_rem
  split
  · exact h c hc
  · rw [hs_if]
    split
    · next e =>
      rw [← e]
      exact Nat.or_lt_two_pow (n := 64) (h c hc) (Nat.pow_lt_pow_right (by decide) hs)
    · exact h c hc
theorem gc_root {σ τ : hs_S} {b r v : Nat} {C : Nat → Nat → Prop} (I : gc_I σ b τ C) (hv : gc_fw b τ (σ 1 r) v) : gc_I σ b (hs_st τ 1 r v) C := by
  obtain ⟨A, B, D, R⟩ := I
  have h10 : hs_st τ 1 r v 10 = τ 10 := hs_fn _ _ _ (by decide)
  have h3 : hs_st τ 1 r v 3 = τ 3 := hs_fn _ _ _ (by decide)
  have h4 : hs_st τ 1 r v 4 = τ 4 := hs_fn _ _ _ (by decide)
  refine ⟨gc_A_cg (hs_fn _ _ _ (by decide)) (hs_fn _ _ _ (by decide)) (hs_fn _ _ _ (by decide)) (hs_fn _ _ _ (by decide)) (hs_fn _ _ _ (by decide)) (hs_fn _ _ _ (by decide)) (hs_fn _ _ _ (by decide)) A, gc_B_cg (hs_fn _ _ _ (by decide)) h10 (hs_fn _ _ _ (by decide)) (hs_fn _ _ _ (by decide)) B, ⟨fun t s hm => ?_, fun o h1 h2 h5 => ?_, fun r' hr' => ?_⟩, gc_R_cg (hs_fn _ _ _ (by decide)) h4 (hs_fn _ _ _ (by decide)) h10 R⟩
  · rw [h3, h4]
    obtain ⟨a1, a2⟩ := D.1 t s ((gc_mu_cg h10).mp hm)
    exact ⟨a1, fun f hf => (gc_fw_cg h10).mpr (a2 f hf)⟩
  · rw [h3, h4]
    exact D.2.1 o h1 h2 h5
  · rw [gc_fw_cg h10, hs_if]
    split
    · next e => rw [e]; exact hv
    · exact D.2.2 r' hr'
theorem gc_fld {σ τ : hs_S} {b t s f y : Nat} {C : Nat → Nat → Prop} (I : gc_I σ b τ C) (hm : gc_mu σ b τ t s) (hf : f < 3) (hy : gc_fw b τ (σ 4 (s * 3 + f)) y) (hc : ∀ x, y = x + 1 → x / 8 ≠ b) :
    gc_I σ b (cf_rem (hs_st τ 4 (t * 3 + f) y) t y) (fun t' f' => C t' f' ∨ (t' = t ∧ f' = f)) := by
  obtain ⟨A, B, D, R⟩ := I
  obtain ⟨t64, s64, tb, tu, su⟩ := gc_mu_b B hm
  have fn : ∀ k, k ≠ 9 → k ≠ 4 → cf_rem (hs_st τ 4 (t * 3 + f) y) t y k = τ k := fun k h1 h2 => (cf_rem_fn h1).trans (hs_fn _ _ _ h2)
  have e4 : ∀ i, cf_rem (hs_st τ 4 (t * 3 + f) y) t y 4 i = if i = t * 3 + f then y else τ 4 i := fun i => by rw [cf_rem_fn (by decide), hs_if]
  have h9 : hs_st τ 4 (t * 3 + f) y 9 = τ 9 := hs_fn _ _ _ (by decide)
  have up : ∀ c i, (τ 9 c).testBit i = true → (cf_rem (hs_st τ 4 (t * 3 + f) y) t y 9 c).testBit i = true := fun c i h => cf_rem_up (by rw [h9]; exact h)
  have hat : ∀ x, y = x + 1 → (cf_rem (hs_st τ 4 (t * 3 + f) y) t y 9 (x / 8)).testBit t = true := fun x h => by rw [h]; exact cf_rem_at
  have hlt := cf_rem_lt (σ := hs_st τ 4 (t * 3 + f) y) (r := y) t64 (by rw [h9]; exact R.2.2.2)
  generalize cf_rem (hs_st τ 4 (t * 3 + f) y) t y = ζ at fn e4 up hat hlt
  have h10 := fn 10 (by decide) (by decide)
  have h2 := fn 2 (by decide) (by decide)
  refine ⟨gc_A_cg (fn 0 (by decide) (by decide)) h2 (fn 5 (by decide) (by decide)) (fn 6 (by decide) (by decide)) (fn 7 (by decide) (by decide)) (fn 8 (by decide) (by decide)) (fn 11 (by decide) (by decide)) A, gc_B_cg h2 h10 (fn 11 (by decide) (by decide)) (fn 12 (by decide) (by decide)) B, ⟨fun t1 s1 hm1 => ?_, fun o h1 h5 h6 => ?_, fun r hr => ?_⟩, ⟨fun t1 s1 f1 hm1 hf1 hc1 x hx => ?_, fun t1 f1 hc1 => ?_, fun i hi => up b i (R.2.2.1 i hi), hlt⟩⟩
  · have hm1 := (gc_mu_cg h10).mp hm1
    rw [fn 3 (by decide) (by decide)]
    obtain ⟨a1, a2⟩ := D.1 t1 s1 hm1
    refine ⟨a1, fun f1 hf1 => ?_⟩
    rw [gc_fw_cg h10, e4]
    by_cases q : t1 * 3 + f1 = t * 3 + f
    · have et : t1 = t := by omega
      have ef : f1 = f := by omega
      subst et
      subst ef
      rw [if_pos rfl, gc_mu_inj B hm1 hm]
      exact hy
    · rw [if_neg q]
      exact a2 f1 hf1
  · rw [fn 3 (by decide) (by decide)]
    obtain ⟨a1, a2⟩ := D.2.1 o h1 h5 h6
    refine ⟨a1, fun f1 hf1 => ?_⟩
    rw [e4, if_neg (fun q => tb (by rw [← h5]; congr 1; omega))]
    exact a2 f1 hf1
  · rw [gc_fw_cg h10, fn 1 (by decide) (by decide)]
    exact D.2.2 r hr
  · have hm1 := (gc_mu_cg h10).mp hm1
    rw [e4] at hx
    by_cases q : t1 * 3 + f1 = t * 3 + f
    · have et : t1 = t := by omega
      rw [if_pos q] at hx
      rw [et]
      exact hat x hx
    · rw [if_neg q] at hx
      refine up _ _ (R.1 t1 s1 f1 hm1 hf1 ?_ x hx)
      rcases hc1 with h | h | ⟨h1, h3⟩
      · exact Or.inl h
      · exact Or.inr h
      · rw [h1, h3] at q
        exact absurd rfl q
  · rw [h2]
    rcases hc1 with h | ⟨h1, h3⟩
    · obtain ⟨a1, a2, a3⟩ := R.2.1 t1 f1 h
      refine ⟨a1, a2, fun hf1 x hx => ?_⟩
      rw [e4] at hx
      by_cases q : t1 * 3 + f1 = t * 3 + f
      · rw [if_pos q] at hx
        exact hc x hx
      · rw [if_neg q] at hx
        exact a3 hf1 x hx
    · subst h1
      subst h3
      refine ⟨t64, tu, fun _ x hx => ?_⟩
      rw [e4, if_pos rfl] at hx
      exact hc x hx
theorem cf_wi_0 {r b : Nat} : cf_wi r b = 0 ↔ (r = 0 ∨ (r - 1) / 8 ≠ b) := by
  unfold cf_wi
  by_cases h : r = 0
  · rw [if_pos h]; exact ⟨fun _ => Or.inl h, fun _ => rfl⟩
  · rw [if_neg h]
    by_cases h2 : (r - 1) / 8 = b
    · rw [if_pos h2]
      exact ⟨fun q => by omega, fun q => by omega⟩
    · rw [if_neg h2]
      exact ⟨fun _ => Or.inr h2, fun _ => rfl⟩
theorem gc_fw_64 {σ τ : hs_S} {b v x : Nat} (B : gc_B σ b τ) (hv : v ≤ 64) (hf : gc_fw b τ v x) : x ≤ 64 := by
  rcases hf with q | ⟨o, t, q1, q2, q3, q4, q5⟩
  · omega
  · have := (B.1 o t q2 q3 q4).1
    omega
theorem gc_fx {σ τ : hs_S} {b w t s f : Nat} {C : Nat → Nat → Prop} (hV : HV σ) (hw : w + 1 < σ 5 0) (hb : σ 6 w = b) (I : gc_I σ b τ C) (hm : gc_mu σ b τ t s) (hf : f < 3) :
    ck_fx t b f τ ∧ gc_I σ b (cf_fx t b f τ) (fun t' f' => C t' f' ∨ (t' = t ∧ f' = f)) ∧ gc_mo τ (cf_fx t b f τ) := by
  obtain ⟨t64, s64, tb, tu, su⟩ := gc_mu_b I.2.1 hm
  have hfw := (I.2.2.1.1 t s hm).2 f hf
  have hσ := (hV.2.2.2.2.1 s s64 su f hf).1
  have v64 := gc_fw_64 I.2.1 hσ hfw
  by_cases c : cf_wi (τ 4 (t * 3 + f)) b = 0
  · have e1 : cf_x1 t b f τ = τ := if_pos c
    have e2 : cf_fx t b f τ = cf_rem (hs_st τ 4 (t * 3 + f) (τ 4 (t * 3 + f))) t (τ 4 (t * 3 + f)) := by
      unfold cf_fx
      rw [e1, hs_id]
    have hk : ck_fx t b f τ := ⟨by omega, fun q => absurd c q, by rw [e1]; exact v64⟩
    refine ⟨hk, ?_, ?_⟩
    · rw [e2]
      refine gc_fld I hm hf hfw (fun x hx => ?_)
      rcases cf_wi_0.mp c with q | q
      · omega
      · rw [hx] at q
        exact q
    · have e3 : cf_fx t b f τ = cf_rem τ t (τ 4 (t * 3 + f)) := by unfold cf_fx; rw [e1]
      rw [e3]
      refine ⟨fun o t' h => ?_, ?_, fun i hi => ?_, fun s' h => ?_, cf_rem_fn (by decide)⟩
      · rw [cf_rem_fn (by decide)]; exact h
      · rw [cf_rem_fn (by decide)]; exact Nat.le_refl _
      · rw [cf_rem_fn (by decide)]
      · rw [cf_rem_fn (by decide)]; exact h
  · have c2 : ¬ (τ 4 (t * 3 + f) = 0 ∨ (τ 4 (t * 3 + f) - 1) / 8 ≠ b) := fun q => c (cf_wi_0.mpr q)
    obtain ⟨o, eo⟩ : ∃ o, τ 4 (t * 3 + f) = o + 1 := ⟨τ 4 (t * 3 + f) - 1, by omega⟩
    have ob : o / 8 = b := by
      apply Classical.byContradiction
      intro q
      apply c2
      rw [eo]
      exact Or.inr q
    rw [eo] at hfw
    have ev := gc_old I.2.1 hfw ob
    obtain ⟨o64, ou⟩ := HV_fv hV s64 su hf o ev
    obtain ⟨k1, k2, k3, x, k4, k5, k6, k7⟩ := gc_evac hV hw hb I o64 ob ou
    have e1 : cf_x1 t b f τ = hs_st (cf_ev τ (o + 1)) 4 (t * 3 + f) (x + 1) := by
      unfold cf_x1
      rw [if_neg c, eo, k4]
    have e2 : cf_fx t b f τ = cf_rem (hs_st (cf_ev τ (o + 1)) 4 (t * 3 + f) (x + 1)) t (x + 1) := by
      unfold cf_fx
      rw [e1, hs_same]
    have hk : ck_fx t b f τ := ⟨by omega, fun _ => by rw [eo]; exact k1, by rw [e1, hs_same]; omega⟩
    refine ⟨hk, ?_, ?_⟩
    · rw [e2]
      refine gc_fld k2 (gc_mo_mu k3 hm) hf (Or.inr ⟨o, x, ev, o64, ob, k5, rfl⟩) (fun y hy => ?_)
      have e : y = x := by omega
      rw [e]
      exact k7
    · rw [e2]
      refine gc_mo_tr k3 ⟨fun o' t' h => ?_, ?_, fun i hi => ?_, fun s' h => ?_, ?_⟩
      · rw [cf_rem_fn (by decide), hs_fn _ _ _ (by decide)]; exact h
      · rw [cf_rem_fn (by decide), hs_fn _ _ _ (by decide)]; exact Nat.le_refl _
      · rw [cf_rem_fn (by decide), hs_fn _ _ _ (by decide)]
      · rw [cf_rem_fn (by decide), hs_fn _ _ _ (by decide)]; exact h
      · rw [cf_rem_fn (by decide), hs_fn _ _ _ (by decide)]
theorem gc_I_sub {σ τ : hs_S} {b : Nat} {C C' : Nat → Nat → Prop} (hs : ∀ t f, C' t f → C t f) (I : gc_I σ b τ C) : gc_I σ b τ C' := ⟨I.1, I.2.1, I.2.2.1, gc_R_sub hs I.2.2.2⟩
theorem gc_fix {σ τ : hs_S} {b w t s : Nat} {C : Nat → Nat → Prop} (hV : HV σ) (hw : w + 1 < σ 5 0) (hb : σ 6 w = b) (I : gc_I σ b τ C) (hm : gc_mu σ b τ t s) :
    ck_fix τ t b ∧ gc_I σ b (cf_fix τ t b) (fun t' f' => C t' f' ∨ (t' = t ∧ f' < 3)) ∧ gc_mo τ (cf_fix τ t b) := by
  have b8 : b < 8 := by
    have := hV.1.2.2.1 w (by have := hV.2.1; omega)
    omega
  obtain ⟨h1, h2, h3⟩ := it_invK (f := cf_fx t b) (k := ck_fx t b) (N := 3) (fun f u => gc_I σ b u (fun t' f' => C t' f' ∨ (t' = t ∧ f' < f)) ∧ gc_mo τ u) (fun f u hf J => by
      obtain ⟨k1, k2, k3⟩ := gc_fx hV hw hb J.1 (gc_mo_mu J.2 hm) hf
      refine ⟨k1, gc_I_sub (fun t' f' q => ?_) k2, gc_mo_tr J.2 k3⟩
      rcases q with q | ⟨q1, q2⟩
      · exact Or.inl (Or.inl q)
      · by_cases e : f' = f
        · exact Or.inr ⟨q1, e⟩
        · exact Or.inl (Or.inr ⟨q1, by omega⟩)) τ ⟨gc_I_sub (fun t' f' q => by
      rcases q with q | ⟨_, q⟩
      · exact q
      · exact absurd q (Nat.not_lt_zero _)) I, gc_mo_rf _⟩
  exact ⟨⟨(gc_mu_b I.2.1 hm).1, b8, h1⟩, h2, h3⟩
end
section
set_option maxRecDepth 100000
theorem gc_z10 (u : hs_S) : (∀ o, o < 64 → it_f cf_z10 64 0 u 10 o = 0) ∧ ∀ k, k ≠ 10 → it_f cf_z10 64 0 u k = u k :=
  it_inv0 (f := cf_z10) (N := 64) (fun i v => (∀ s, s < i → v 10 s = 0) ∧ ∀ k, k ≠ 10 → v k = u k) (fun i v hi h => ⟨fun s hs => by
      show hs_st v 10 i 0 10 s = _
      rw [hs_if]
      split
      · rfl
      · exact h.1 s (by omega), fun k hk => by
      show hs_st v 10 i 0 k = _
      rw [hs_fn _ _ _ hk]
      exact h.2 k hk⟩) u ⟨fun s hs => absurd hs (Nat.not_lt_zero s), fun _ _ => rfl⟩
theorem gc_c1 {σ : hs_S} (hV : HV σ) (b : Nat) : gc_I σ b (cf_c1 σ) (fun _ _ => False) := by
  obtain ⟨z1, z2⟩ := gc_z10 (hs_st σ 11 0 0)
  have fn : ∀ k, k ≠ 10 → k ≠ 11 → cf_c1 σ k = σ k := fun k h1 h2 => (z2 k h1).trans (hs_fn _ _ _ h2)
  have e10 : ∀ o, o < 64 → cf_c1 σ 10 o = 0 := z1
  have e11 : cf_c1 σ 11 0 = 0 := by
    show it_f cf_z10 64 0 (hs_st σ 11 0 0) 11 0 = 0
    rw [z2 11 (by decide), hs_same]
  generalize cf_c1 σ = τ at fn e10 e11
  have f2 := fn 2 (by decide) (by decide)
  have f3 := fn 3 (by decide) (by decide)
  have f4 := fn 4 (by decide) (by decide)
  have f5 := fn 5 (by decide) (by decide)
  have f6 := fn 6 (by decide) (by decide)
  have f8 := fn 8 (by decide) (by decide)
  have f9 := fn 9 (by decide) (by decide)
  have mu : ∀ t s, gc_mu σ b τ t s → t = s ∧ s < 64 ∧ s / 8 ≠ b ∧ σ 2 s = 1 := by
    intro t s hm
    rcases hm with q | ⟨q1, q2, q3⟩
    · exact q
    · rw [e10 s q1] at q3
      omega
  refine ⟨⟨?_, ?_, fun i _ => by rw [f6], Or.inl ⟨by rw [f5], by rw [f8, e11]; rfl⟩, fn 0 (by decide) (by decide), fn 7 (by decide) (by decide)⟩, ⟨fun o t h1 h2 h3 => ?_, fun o o' t h1 h2 h3 h4 h5 h6 => ?_, fun i hi => by omega, fun i j _ hj => by omega, fun s hs h1 => by rw [f2]; exact h1, fun s hs h1 => Or.inl (by rw [← f2]; exact h1)⟩, ⟨fun t s hm => ?_, fun o h1 h2 h3 => ?_, fun r hr => ?_⟩, ⟨fun t s f hm hf hc x hx => ?_, fun t f hc => absurd hc id, fun s hs => by rw [f9]; exact hs, fun c hc => by rw [f9]; exact hV.2.2.2.2.2.1 c hc⟩⟩
  · unfold hv_o; rw [f5, f6, f8]; exact hV.1
  · unfold hv_u; rw [f2, f5, f6, f8]; exact hV.2.2.1
  · rw [e10 o h1] at h3; omega
  · rw [e10 o h1] at h5; omega
  · obtain ⟨q1, q2, q3, q4⟩ := mu t s hm
    rw [q1, f3, f4]
    exact ⟨rfl, fun f hf => Or.inl rfl⟩
  · rw [f3, f4]
    exact ⟨rfl, fun f hf => rfl⟩
  · rw [fn 1 (by decide) (by decide)]
    exact Or.inl rfl
  · obtain ⟨q1, q2, q3, q4⟩ := mu t s hm
    rw [f9]
    rw [q1, f4] at hx
    rw [q1]
    exact ((hV.2.2.2.2.1 s q2 q4 f hf).2 x hx).2
theorem gc_c2 {σ : hs_S} {b w : Nat} (hV : HV σ) (hw : w + 1 < σ 5 0) (hb : σ 6 w = b) :
    it_k (ck_rt b) (cf_rt b) 8 0 (cf_c1 σ) ∧ gc_I σ b (cf_c2 σ b) (fun _ _ => False) ∧ ∀ r, r < 8 → ∀ x, cf_c2 σ b 1 r = x + 1 → x / 8 ≠ b := by
  refine it_invK (f := cf_rt b) (k := ck_rt b) (N := 8) (fun r u => gc_I σ b u (fun _ _ => False) ∧ ∀ r', r' < r → ∀ x, u 1 r' = x + 1 → x / 8 ≠ b) (fun r u hr J => ?_) (cf_c1 σ) ⟨gc_c1 hV b, fun r' hr' => absurd hr' (Nat.not_lt_zero _)⟩
  obtain ⟨I, hcl⟩ := J
  have hfw := I.2.2.1.2.2 r hr
  have v64 := gc_fw_64 I.2.1 (hV.2.2.2.1 r hr).1 hfw
  by_cases c : cf_wi (u 1 r) b = 0
  · have e : cf_rt b r u = u := if_pos c
    rw [e]
    refine ⟨⟨by omega, fun q => absurd c q⟩, I, fun r' hr' x hx => ?_⟩
    by_cases q : r' < r
    · exact hcl r' q x hx
    · have er : r' = r := by omega
      rw [er] at hx
      rcases cf_wi_0.mp c with q | q
      · omega
      · rw [hx] at q
        exact q
  · have c2 : ¬ (u 1 r = 0 ∨ (u 1 r - 1) / 8 ≠ b) := fun q => c (cf_wi_0.mpr q)
    obtain ⟨o, eo⟩ : ∃ o, u 1 r = o + 1 := ⟨u 1 r - 1, by omega⟩
    have ob : o / 8 = b := by
      apply Classical.byContradiction
      intro q
      apply c2
      rw [eo]
      exact Or.inr q
    rw [eo] at hfw
    have ev := gc_old I.2.1 hfw ob
    obtain ⟨o64, ou⟩ := HV_rv hV hr o ev
    obtain ⟨k1, k2, k3, x, k4, k5, k6, k7⟩ := gc_evac hV hw hb I o64 ob ou
    have e : cf_rt b r u = hs_st (cf_ev u (o + 1)) 1 r (x + 1) := by
      unfold cf_rt
      rw [if_neg c, eo, k4]
    rw [e]
    refine ⟨⟨by omega, fun _ => by rw [eo]; exact k1⟩, gc_root k2 (Or.inr ⟨o, x, ev, o64, ob, k5, rfl⟩), fun r' hr' y hy => ?_⟩
    rw [hs_if] at hy
    by_cases q : r' = r
    · rw [if_pos q] at hy
      have e2 : y = x := by omega
      rw [e2]
      exact k7
    · rw [if_neg q, k3.2.2.2.2] at hy
      exact hcl r' (by omega) y hy
theorem gc_c3 {σ : hs_S} {b w : Nat} (hV : HV σ) (hw : w + 1 < σ 5 0) (hb : σ 6 w = b) :
    it_k (ck_sr (cf_c2 σ b 9 b) b) (cf_sr (cf_c2 σ b 9 b) b) 64 0 (cf_c2 σ b) ∧ gc_I σ b (cf_c3 σ b) (fun t f => t < 64 ∧ σ 2 t = 1 ∧ t / 8 ≠ b ∧ f < 3 ∧ (cf_c2 σ b 9 b).testBit t = true) ∧ cf_c3 σ b 1 = cf_c2 σ b 1 := by
  obtain ⟨_, I0, _⟩ := gc_c2 hV hw hb
  refine it_invK (f := cf_sr (cf_c2 σ b 9 b) b) (k := ck_sr (cf_c2 σ b 9 b) b) (N := 64) (fun i u => gc_I σ b u (fun t f => t < i ∧ σ 2 t = 1 ∧ t / 8 ≠ b ∧ f < 3 ∧ (cf_c2 σ b 9 b).testBit t = true) ∧ u 1 = cf_c2 σ b 1) (fun i u hi J => ?_) (cf_c2 σ b) ⟨gc_I_sub (fun t f q => absurd q.1 (Nat.not_lt_zero _)) I0, rfl⟩
  obtain ⟨I, h1⟩ := J
  have hu := I.1.2.1.1 i hi
  by_cases c1 : (cf_c2 σ b 9 b).testBit i = true
  · by_cases c2 : u 2 i = 0
    · have e : cf_sr (cf_c2 σ b 9 b) b i u = u := (if_pos c1).trans (if_pos c2)
      rw [e]
      refine ⟨⟨by omega, fun _ q => absurd c2 q⟩, gc_I_sub (fun t f q => ?_) I, h1⟩
      refine ⟨?_, q.2⟩
      apply Classical.byContradiction
      intro hn
      have et : t = i := by have := q.1; omega
      have := I.2.1.2.2.2.2.1 t (by omega) q.2.1
      rw [et] at this
      omega
    · by_cases c3 : i / 8 = b
      · have e : cf_sr (cf_c2 σ b 9 b) b i u = u := (if_pos c1).trans ((if_neg c2).trans (if_pos c3))
        rw [e]
        refine ⟨⟨by omega, fun _ _ q => absurd c3 q⟩, gc_I_sub (fun t f q => ?_) I, h1⟩
        refine ⟨?_, q.2⟩
        apply Classical.byContradiction
        intro hn
        have et : t = i := by have := q.1; omega
        rw [et] at q
        exact q.2.2.1 c3
      · have e : cf_sr (cf_c2 σ b 9 b) b i u = cf_fix u i b := (if_pos c1).trans ((if_neg c2).trans (if_neg c3))
        obtain ⟨s, hm⟩ : ∃ s, gc_mu σ b u i s := by
          rcases I.2.1.2.2.2.2.2 i hi (by omega) with a | ⟨o, a1, a2, a3⟩
          · exact ⟨i, Or.inl ⟨rfl, hi, c3, a⟩⟩
          · exact ⟨o, Or.inr ⟨a1, a2, a3⟩⟩
        obtain ⟨k1, k2, k3⟩ := gc_fix hV hw hb I hm
        rw [e]
        refine ⟨⟨by omega, fun _ _ _ => k1⟩, gc_I_sub (fun t f q => ?_) k2, k3.2.2.2.2.trans h1⟩
        by_cases et : t = i
        · exact Or.inr ⟨et, q.2.2.2.1⟩
        · exact Or.inl ⟨by have := q.1; omega, q.2⟩
  · have e : cf_sr (cf_c2 σ b 9 b) b i u = u := if_neg c1
    rw [e]
    refine ⟨⟨by omega, fun q => absurd q c1⟩, gc_I_sub (fun t f q => ?_) I, h1⟩
    refine ⟨?_, q.2⟩
    apply Classical.byContradiction
    intro hn
    have et : t = i := by have := q.1; omega
    rw [et] at q
    exact c1 q.2.2.2.2
theorem gc_cq {σ : hs_S} {b w : Nat} (hV : HV σ) (hw : w + 1 < σ 5 0) (hb : σ 6 w = b) (C0 : Nat → Nat → Prop) : ∀ (n i : Nat) (u : hs_S), i + n = 64 → gc_I σ b u (fun t f => C0 t f ∨ (f < 3 ∧ ∃ j, j < i ∧ j < u 11 0 ∧ u 12 j = t)) →
    ck_cq b n i u ∧ gc_I σ b (cf_cq b n i u) (fun t f => C0 t f ∨ (f < 3 ∧ ∃ j, j < cf_cq b n i u 11 0 ∧ cf_cq b n i u 12 j = t)) ∧ cf_cq b n i u 1 = u 1 := by
  intro n
  induction n with
  | zero =>
    intro i u hi I
    have c8 := gc_8 I.2.1
    refine ⟨?_, gc_I_sub (fun t f q => ?_) I, rfl⟩
    · show u 11 0 < 2147483648
      omega
    · rcases q with q | ⟨q1, j, q2, q3⟩
      · exact Or.inl q
      · have q2 : j < u 11 0 := q2
        exact Or.inr ⟨q1, j, by omega, q2, q3⟩
  | succ n ih =>
    intro i u hi I
    have c8 := gc_8 I.2.1
    by_cases c : i < u 11 0
    · have e : cf_cq b (n + 1) i u = cf_cq b n (i + 1) (cf_fix u (u 12 i) b) := if_pos c
      obtain ⟨o, a1, a2, a3⟩ := I.2.1.2.2.1 i c
      obtain ⟨k1, k2, k3⟩ := gc_fix hV hw hb I (t := u 12 i) (s := o) (Or.inr ⟨a1, a2, a3⟩)
      obtain ⟨m1, m2, m3⟩ := ih (i + 1) (cf_fix u (u 12 i) b) (by omega) (gc_I_sub (fun t f q => by
        rcases q with q | ⟨q1, j, q2, q3, q4⟩
        · exact Or.inl (Or.inl q)
        · have hj : j < u 11 0 := by omega
          rw [k3.2.2.1 j hj] at q4
          by_cases ej : j = i
          · rw [ej] at q4
            exact Or.inr ⟨q4.symm, q1⟩
          · exact Or.inl (Or.inr ⟨q1, j, by omega, hj, q4⟩)) k2)
      rw [e]
      refine ⟨⟨by omega, fun _ => ⟨k1, m1⟩⟩, m2, m3.trans k3.2.2.2.2⟩
    · have e : cf_cq b (n + 1) i u = u := if_neg c
      rw [e]
      refine ⟨⟨by omega, fun q => absurd q c⟩, gc_I_sub (fun t f q => ?_) I, rfl⟩
      rcases q with q | ⟨q1, j, q2, q3⟩
      · exact Or.inl q
      · exact Or.inr ⟨q1, j, by omega, q2, q3⟩
/-- ahead of freeBlock: nothing outside the block refers into it -/
def gc_end (σ : hs_S) (b : Nat) (τ : hs_S) : Prop := gc_A σ τ ∧ gc_B σ b τ ∧ gc_D σ b τ ∧ (∀ t s, gc_mu σ b τ t s → ∀ f, f < 3 → ∀ x, τ 4 (t * 3 + f) = x + 1 → x / 8 ≠ b ∧ (τ 9 (x / 8)).testBit t = true) ∧ (∀ r, r < 8 → ∀ x, τ 1 r = x + 1 → x / 8 ≠ b) ∧ (∀ c, c < 8 → τ 9 c < 18446744073709551616)
theorem gc_c4 {σ : hs_S} {b w : Nat} (hV : HV σ) (hw : w + 1 < σ 5 0) (hb : σ 6 w = b) :
    it_k (ck_rt b) (cf_rt b) 8 0 (cf_c1 σ) ∧ cf_c2 σ b 9 b < 18446744073709551616 ∧ it_k (ck_sr (cf_c2 σ b 9 b) b) (cf_sr (cf_c2 σ b 9 b) b) 64 0 (cf_c2 σ b) ∧ ck_cq b 64 0 (cf_c3 σ b) ∧ gc_end σ b (cf_c4 σ b) := by
  have b8 : b < 8 := by
    have := hV.1.2.2.1 w (by have := hV.2.1; omega)
    omega
  obtain ⟨h1, I2, r2⟩ := gc_c2 hV hw hb
  obtain ⟨h3, I3, r3⟩ := gc_c3 hV hw hb
  obtain ⟨h4, I4, r4⟩ := gc_cq hV hw hb _ 64 0 (cf_c3 σ b) (by omega) (gc_I_sub (fun t f q => by
    rcases q with q | ⟨_, j, q2, _⟩
    · exact q
    · exact absurd q2 (Nat.not_lt_zero _)) I3)
  refine ⟨h1, I2.2.2.2.2.2.2 b b8, h3, h4, I4.1, I4.2.1, I4.2.2.1, fun t s hm f hf x hx => ?_, fun r hr x hx => ?_, I4.2.2.2.2.2.2⟩
  · have hcl : x / 8 ≠ b ∧ (s / 8 ≠ b ∨ ((t < 64 ∧ σ 2 t = 1 ∧ t / 8 ≠ b ∧ f < 3 ∧ (cf_c2 σ b 9 b).testBit t = true) ∨ (f < 3 ∧ ∃ j, j < cf_cq b 64 0 (cf_c3 σ b) 11 0 ∧ cf_cq b 64 0 (cf_c3 σ b) 12 j = t))) := by
      rcases hm with ⟨q1, q2, q3, q4⟩ | ⟨q1, q2, q3⟩
      · refine ⟨?_, Or.inl q3⟩
        by_cases c : (cf_c2 σ b 9 b).testBit s = true
        · exact (I4.2.2.2.2.1 t f (Or.inl ⟨by omega, by rw [q1]; exact q4, by rw [q1]; exact q3, hf, by rw [q1]; exact c⟩)).2.2 hf x hx
        · intro hxb
          have hfw := (I4.2.2.1.1 t s (Or.inl ⟨q1, q2, q3, q4⟩)).2 f hf
          have hx' : cf_cq b 64 0 (cf_c3 σ b) 4 (t * 3 + f) = x + 1 := hx
          rw [hx'] at hfw
          have ev := gc_old I4.2.1 hfw hxb
          have hbit := ((hV.2.2.2.2.1 s q2 q4 f hf).2 x ev).2
          rw [hxb] at hbit
          exact c (I2.2.2.2.2.2.1 s hbit)
      · obtain ⟨_, _, _, _, _, i, a1, a2⟩ := I4.2.1.1 s t q1 q2 q3
        have hC : (f < 3 ∧ ∃ j, j < cf_cq b 64 0 (cf_c3 σ b) 11 0 ∧ cf_cq b 64 0 (cf_c3 σ b) 12 j = t) := ⟨hf, i, a1, a2⟩
        exact ⟨(I4.2.2.2.2.1 t f (Or.inr hC)).2.2 hf x hx, Or.inr (Or.inr hC)⟩
    exact ⟨hcl.1, I4.2.2.2.1 t s f hm hf hcl.2 x hx⟩
  · have e : cf_c4 σ b 1 = cf_c2 σ b 1 := r4.trans r3
    rw [e] at hx
    exact r2 r hr x hx
end
section
set_option maxRecDepth 100000
theorem fb_ord {τ : hs_S} {b w : Nat} (ho : hv_o τ) (hw : w < τ 5 0) (hb : τ 6 w = b) :
    it_k (ck_f1 b) (cf_f1 b) (τ 5 0) 0 (0, τ) ∧ (cf_fu τ b).1 = τ 5 0 - 1 ∧ (∀ j, j < τ 5 0 - 1 → (cf_fu τ b).2 6 j = if j < w then τ 6 j else τ 6 (j + 1)) ∧ (∀ j, j < 8 → (cf_fu τ b).2 6 j < 8) ∧ ∀ k, k ≠ 6 → (cf_fu τ b).2 k = τ k := by
  have h := it_invK (f := cf_f1 b) (k := ck_f1 b) (N := τ 5 0) (fun i u => u.1 = (if i ≤ w then i else i - 1) ∧ (∀ j, j < u.1 → u.2 6 j = if j < w then τ 6 j else τ 6 (j + 1)) ∧ (∀ j, i ≤ j → u.2 6 j = τ 6 j) ∧ (∀ j, j < 8 → u.2 6 j < 8) ∧ ∀ k, k ≠ 6 → u.2 k = τ k) (fun i u hi J => by
      obtain ⟨j1, j2, j3, j4, j5⟩ := J
      have e6 := j3 i (Nat.le_refl _)
      have h58 := ho.2.1
      have hi8 := ho.2.2.1 i (by omega)
      have hk : ck_f1 b i u := by
        refine ⟨?_, by rw [e6]; omega⟩
        rw [j1]
        split <;> omega
      refine ⟨hk, ?_⟩
      by_cases q : i = w
      · have e : cf_f1 b i u = u := if_pos (by rw [e6, q]; exact hb)
        rw [e]
        refine ⟨?_, j2, fun j hj => j3 j (by omega), j4, j5⟩
        rw [j1, if_pos (by omega), if_neg (by omega)]
        omega
      · have hne : ¬ u.2 6 i = b := by
          rw [e6]
          intro e
          exact q (hv_inj ho hi hw (by rw [e, hb]))
        have e : cf_f1 b i u = (u.1 + 1, hs_st u.2 6 u.1 (u.2 6 i)) := if_neg hne
        rw [e]
        have hκ : u.1 ≤ i := by
          rw [j1]
          split <;> omega
        refine ⟨?_, fun j hj => ?_, fun j hj => ?_, fun j hj => ?_, fun k hk => ?_⟩
        · show u.1 + 1 = _
          rw [j1]
          split <;> split <;> omega
        · show hs_st u.2 6 u.1 (u.2 6 i) 6 j = _
          have hj : j < u.1 + 1 := hj
          rw [hs_if]
          by_cases ej : j = u.1
          · rw [if_pos ej, e6]
            rw [j1] at ej
            by_cases c : i ≤ w
            · rw [if_pos c] at ej
              rw [ej, if_pos (by omega)]
            · rw [if_neg c] at ej
              rw [if_neg (by omega)]
              congr 1
              omega
          · rw [if_neg ej]
            exact j2 j (by omega)
        · show hs_st u.2 6 u.1 (u.2 6 i) 6 j = _
          rw [hs_if, if_neg (by omega)]
          exact j3 j (by omega)
        · show hs_st u.2 6 u.1 (u.2 6 i) 6 j < 8
          rw [hs_if]
          split
          · rw [e6]; exact hi8
          · exact j4 j hj
        · show hs_st u.2 6 u.1 (u.2 6 i) k = _
          rw [hs_fn _ _ _ hk]
          exact j5 k hk) (0, τ) ⟨by rw [if_pos (Nat.zero_le _)], fun j hj => absurd hj (Nat.not_lt_zero _), fun _ _ => rfl, ho.2.2.1, fun _ _ => rfl⟩
  obtain ⟨h0, h1, h2, h3, h4, h5⟩ := h
  have e1 : (cf_fu τ b).1 = τ 5 0 - 1 := by
    show (it_f (cf_f1 b) (τ 5 0) 0 (0, τ)).1 = _
    rw [h1, if_neg (by omega)]
  refine ⟨h0, e1, fun j hj => ?_, h4, h5⟩
  exact h2 j (by show j < (cf_fu τ b).1; rw [e1]; exact hj)
theorem fb_mask {b i : Nat} (hi : i < 64) (hib : i / 8 ≠ b) : (cf_go b ^^^ 18446744073709551615).testBit i = true := by
  rw [Nat.testBit_xor]
  have h1 : (18446744073709551615 : Nat).testBit i = true := by
    have e : (18446744073709551615 : Nat) = 2 ^ 64 - 1 := by decide
    rw [e, Nat.testBit_two_pow_sub_one]
    exact decide_eq_true hi
  have h2 : (cf_go b).testBit i = false := by
    unfold cf_go
    rw [Nat.testBit_mul_two_pow]
    by_cases c : b * 8 ≤ i
    · have e : (255 : Nat) = 2 ^ 8 - 1 := by decide
      rw [e, Nat.testBit_two_pow_sub_one, decide_eq_false (show ¬ i - b * 8 < 8 by omega), Bool.and_false]
    · rw [decide_eq_false c, Bool.false_and]
  rw [h1, h2]
  rfl
theorem fb_zu (b : Nat) (u : hs_S) : (∀ s, it_f (cf_zu b) 8 0 u 2 s = if s / 8 = b then 0 else u 2 s) ∧ ∀ k, k ≠ 2 → it_f (cf_zu b) 8 0 u k = u k := by
  have h := it_inv0 (f := cf_zu b) (N := 8) (fun i v => (∀ s, v 2 s = if s / 8 = b ∧ s % 8 < i then 0 else u 2 s) ∧ ∀ k, k ≠ 2 → v k = u k) (fun i v hi J => ⟨fun s => by
      show hs_st v 2 (b * 8 + i) 0 2 s = _
      rw [hs_if]
      by_cases e : s = b * 8 + i
      · rw [if_pos e, if_pos (by omega)]
      · rw [if_neg e, J.1 s]
        by_cases c : s / 8 = b ∧ s % 8 < i
        · rw [if_pos c, if_pos (by omega)]
        · rw [if_neg c, if_neg (by omega)], fun k hk => by
      show hs_st v 2 (b * 8 + i) 0 k = _
      rw [hs_fn _ _ _ hk]
      exact J.2 k hk⟩) u ⟨fun s => by rw [if_neg (by omega)], fun _ _ => rfl⟩
  refine ⟨fun s => ?_, h.2⟩
  rw [h.1 s]
  by_cases c : s / 8 = b
  · rw [if_pos ⟨c, Nat.mod_lt _ (by decide)⟩, if_pos c]
  · rw [if_neg (fun q => c q.1), if_neg c]
theorem fb_zm (b : Nat) (u : hs_S) : (∀ c, c < 8 → it_f (cf_zm b) 8 0 u 9 c = u 9 c &&& (cf_go b ^^^ 18446744073709551615)) ∧ ∀ k, k ≠ 9 → it_f (cf_zm b) 8 0 u k = u k := by
  have h := it_inv0 (f := cf_zm b) (N := 8) (fun i v => (∀ c, c < i → v 9 c = u 9 c &&& (cf_go b ^^^ 18446744073709551615)) ∧ (∀ c, i ≤ c → v 9 c = u 9 c) ∧ ∀ k, k ≠ 9 → v k = u k) (fun i v hi J => ⟨fun c hc => by
      show hs_st v 9 i (v 9 i &&& (cf_go b ^^^ 18446744073709551615)) 9 c = _
      rw [hs_if]
      by_cases e : c = i
      · rw [if_pos e, e, J.2.1 i (Nat.le_refl _)]
      · rw [if_neg e]; exact J.1 c (by omega), fun c hc => by
      show hs_st v 9 i (v 9 i &&& (cf_go b ^^^ 18446744073709551615)) 9 c = _
      rw [hs_if, if_neg (by omega)]
      exact J.2.1 c (by omega), fun k hk => by
      show hs_st v 9 i (v 9 i &&& (cf_go b ^^^ 18446744073709551615)) k = _
      rw [hs_fn _ _ _ hk]
      exact J.2.2 k hk⟩) u ⟨fun c hc => absurd hc (Nat.not_lt_zero _), fun _ _ => rfl, fun _ _ => rfl⟩
  exact ⟨h.1, h.2.2⟩
theorem fb_free {τ : hs_S} {b w : Nat} (ho : hv_o τ) (hw : w < τ 5 0) (hb : τ 6 w = b) :
    ck_free τ b ∧ (∀ s, cf_free τ b 2 s = if s / 8 = b then 0 else τ 2 s) ∧ cf_free τ b 5 0 = τ 5 0 - 1 ∧ (∀ j, j < τ 5 0 - 1 → cf_free τ b 6 j = if j < w then τ 6 j else τ 6 (j + 1)) ∧ (∀ j, j < 8 → cf_free τ b 6 j < 8) ∧ (∀ c, c < 8 → cf_free τ b 9 c = (if c = b then 0 else τ 9 c) &&& (cf_go b ^^^ 18446744073709551615)) ∧ ∀ k, k ≠ 2 → k ≠ 5 → k ≠ 6 → k ≠ 9 → cf_free τ b k = τ k := by
  obtain ⟨h0, h1, h2, h3, h4⟩ := fb_ord ho hw hb
  obtain ⟨z1, z2⟩ := fb_zu b (cf_g1 τ b)
  obtain ⟨m1, m2⟩ := fb_zm b (cf_g2 τ b)
  have b8 : b < 8 := by
    have := ho.2.2.1 w (by have := ho.2.1; omega)
    omega
  have g1 : ∀ k, k ≠ 5 → cf_g1 τ b k = (cf_fu τ b).2 k := fun k hk => hs_fn _ _ _ hk
  have g2 : ∀ k, k ≠ 9 → cf_g2 τ b k = it_f (cf_zu b) 8 0 (cf_g1 τ b) k := fun k hk => hs_fn _ _ _ hk
  have fr : ∀ k, k ≠ 9 → k ≠ 2 → cf_free τ b k = cf_g1 τ b k := fun k a1 a2 => (m2 k a1).trans ((g2 k a1).trans (z2 k a2))
  have f6 : cf_free τ b 6 = (cf_fu τ b).2 6 := (fr 6 (by decide) (by decide)).trans (g1 6 (by decide))
  refine ⟨⟨b8, ho.2.1, h0⟩, fun s => ?_, ?_, fun j hj => by rw [f6]; exact h2 j hj, fun j hj => by rw [f6]; exact h3 j hj, fun c hc => ?_, fun k a2 a5 a6 a9 => (fr k a9 a2).trans ((g1 k a5).trans (h4 k a6))⟩
  · have e : cf_free τ b 2 = it_f (cf_zu b) 8 0 (cf_g1 τ b) 2 := (m2 2 (by decide)).trans (g2 2 (by decide))
    rw [e, z1 s, g1 2 (by decide), h4 2 (by decide)]
  · rw [fr 5 (by decide) (by decide)]
    show hs_st (cf_fu τ b).2 5 0 (cf_fu τ b).1 5 0 = _
    rw [hs_same, h1]
  · show it_f (cf_zm b) 8 0 (cf_g2 τ b) 9 c = _
    rw [m1 c hc]
    congr 1
    show hs_st (it_f (cf_zu b) 8 0 (cf_g1 τ b)) 9 b 0 9 c = _
    rw [hs_if, z2 9 (by decide), g1 9 (by decide), h4 9 (by decide)]
theorem gc_rr {σ τ : hs_S} {b v y : Nat} (hf : gc_fw b τ v y) (hc : ∀ x, y = x + 1 → x / 8 ≠ b) (hv : ∀ z, v = z + 1 → z < 64 ∧ σ 2 z = 1) : gr_rr (gc_mu σ b τ) y v := by
  rcases hf with q | ⟨o, t, q1, q2, q3, q4, q5⟩
  · by_cases h0 : v = 0
    · exact Or.inl ⟨by omega, h0⟩
    · obtain ⟨z, ez⟩ : ∃ z, v = z + 1 := ⟨v - 1, by omega⟩
      obtain ⟨a1, a2⟩ := hv z ez
      exact Or.inr ⟨z, z, by omega, ez, Or.inl ⟨rfl, a1, hc z (by omega), a2⟩⟩
  · exact Or.inr ⟨t, o, q5, q1, Or.inr ⟨q2, q3, q4⟩⟩
theorem gc_done {σ τ : hs_S} {b w : Nat} (hV : HV σ) (hw : w + 1 < σ 5 0) (hb : σ 6 w = b) (E : gc_end σ b τ) :
    ck_free τ b ∧ HV (cf_free τ b) ∧ gr_b (gc_mu σ b τ) (gr_c (cf_free τ b)) (gr_c σ) ∧ cf_free τ b 0 = σ 0 ∧ cf_free τ b 7 = σ 7 := by
  obtain ⟨A, B, D, X, Y, L⟩ := E
  have s5 : σ 5 0 ≤ τ 5 0 := by rcases A.2.2.2.1 with q | q <;> omega
  have h57 := hV.2.1
  have t58 := A.1.2.1
  have bw : τ 6 w = b := by rw [A.2.2.1 w (by omega)]; exact hb
  obtain ⟨hk, e2, e5, e6, e6b, e9, eo⟩ := fb_free A.1 (w := w) (by omega) bw
  have f0 := eo 0 (by decide) (by decide) (by decide) (by decide)
  have f1 := eo 1 (by decide) (by decide) (by decide) (by decide)
  have f3 := eo 3 (by decide) (by decide) (by decide) (by decide)
  have f4 := eo 4 (by decide) (by decide) (by decide) (by decide)
  have f7 := eo 7 (by decide) (by decide) (by decide) (by decide)
  have f8 := eo 8 (by decide) (by decide) (by decide) (by decide)
  have u1 : ∀ s, cf_free τ b 2 s = 1 → τ 2 s = 1 ∧ s / 8 ≠ b := by
    intro s h
    rw [e2] at h
    by_cases q : s / 8 = b
    · rw [if_pos q] at h; omega
    · rw [if_neg q] at h; exact ⟨h, q⟩
  have u2 : ∀ s, τ 2 s = 1 → s / 8 ≠ b → cf_free τ b 2 s = 1 := by
    intro s h q
    rw [e2, if_neg q]; exact h
  have hmu : ∀ s, s < 64 → cf_free τ b 2 s = 1 → ∃ o, gc_mu σ b τ s o := by
    intro s hs h
    obtain ⟨a1, a2⟩ := u1 s h
    rcases B.2.2.2.2.2 s hs a1 with c | ⟨o, c1, c2, c3⟩
    · exact ⟨s, Or.inl ⟨rfl, hs, a2, c⟩⟩
    · exact ⟨o, Or.inr ⟨c1, c2, c3⟩⟩
  refine ⟨hk, ⟨⟨by omega, by omega, e6b, fun i j hij hj => ?_, by rw [f8]; exact A.1.2.2.2.2⟩, by omega, ⟨fun s hs => ?_, fun s hs h1 => ?_⟩, fun r hr => ?_, fun s hs h1 f hf => ?_, fun c hc => ?_, by rw [f0, A.2.2.2.2.1]; exact hV.2.2.2.2.2.2.1, by rw [f0, A.2.2.2.2.1]; exact hV.2.2.2.2.2.2.2.1, by rw [f7, A.2.2.2.2.2]; exact hV.2.2.2.2.2.2.2.2⟩, ?_, f0.trans A.2.2.2.2.1, f7.trans A.2.2.2.2.2⟩
  · rw [e5] at hj
    rw [e6 i (by omega), e6 j hj]
    intro e
    by_cases c1 : i < w
    · by_cases c2 : j < w
      · rw [if_pos c1, if_pos c2] at e
        exact A.1.2.2.2.1 i j hij (by omega) e
      · rw [if_pos c1, if_neg c2] at e
        exact A.1.2.2.2.1 i (j + 1) (by omega) (by omega) e
    · rw [if_neg c1, if_neg (by omega)] at e
      exact A.1.2.2.2.1 (i + 1) (j + 1) (by omega) (by omega) e
  · rw [e2]
    split
    · exact Nat.zero_le _
    · exact A.2.1.1 s hs
  · obtain ⟨a1, a2⟩ := u1 s h1
    obtain ⟨i, i1, i2, i3⟩ := A.2.1.2 s hs a1
    have hne : i ≠ w := fun q => a2 (by rw [← i2, q]; exact bw)
    rw [e5, f8]
    by_cases c : i < w
    · exact ⟨i, by omega, by rw [e6 i (by omega), if_pos c]; exact i2, fun q => by omega⟩
    · refine ⟨i - 1, by omega, ?_, fun q => i3 (by omega)⟩
      rw [e6 (i - 1) (by omega), if_neg (by omega), show i - 1 + 1 = i by omega]
      exact i2
  · rw [f1]
    refine ⟨gc_fw_64 B (hV.2.2.2.1 r hr).1 (D.2.2 r hr), fun x hx => ?_⟩
    have hfw := D.2.2 r hr
    rw [hx] at hfw
    exact u2 x (gc_tgt B (HV_rv hV hr) hfw).2 (Y r hr x hx)
  · rw [f4]
    obtain ⟨o, hm⟩ := hmu s hs h1
    obtain ⟨_, o64, sb, _, ou⟩ := gc_mu_b B hm
    have hfw := (D.1 s o hm).2 f hf
    refine ⟨gc_fw_64 B (hV.2.2.2.2.1 o o64 ou f hf).1 hfw, fun x hx => ?_⟩
    obtain ⟨x1, x2⟩ := X s o hm f hf x hx
    rw [hx] at hfw
    obtain ⟨x64, xu⟩ := gc_tgt B (HV_fv hV o64 ou hf) hfw
    refine ⟨u2 x xu x1, ?_⟩
    rw [e9 (x / 8) (by omega), if_neg x1, Nat.testBit_and, x2, fb_mask hs sb]
    rfl
  · rw [e9 c hc]
    refine Nat.and_lt_two_pow (n := 64) _ ?_
    exact Nat.xor_lt_two_pow (n := 64) (by
      have b8 : b < 8 := by
        have := A.1.2.2.1 w (by omega)
        omega
      unfold cf_go
      have : 2 ^ (b * 8) ≤ 2 ^ 56 := Nat.pow_le_pow_right (by decide) (by omega)
      omega) (by decide)
  · refine ⟨fun t s s' h1 h2 => gc_mu_inj B h1 h2, fun t t' s h1 h2 => gc_mu_fun h1 h2, fun r hr => ?_, fun t s hm => ⟨?_, fun f hf => ?_⟩⟩
    · show gr_rr _ (cf_free τ b 1 r) (σ 1 r)
      rw [f1]
      exact gc_rr (D.2.2 r hr) (Y r hr) (HV_rv hV hr)
    · show cf_free τ b 3 t = σ 3 s
      rw [f3]
      exact (D.1 t s hm).1
    · show gr_rr _ (cf_free τ b 4 (t * 3 + f)) (σ 4 (s * 3 + f))
      rw [f4]
      obtain ⟨_, s64, _, _, su⟩ := gc_mu_b B hm
      exact gc_rr ((D.1 t s hm).2 f hf) (fun x hx => (X t s hm f hf x hx).1) (HV_fv hV s64 su hf)
theorem gc_cb {σ : hs_S} {b w : Nat} (hV : HV σ) (hw : w + 1 < σ 5 0) (hb : σ 6 w = b) : ck_cb σ b ∧ HV (cf_cb σ b) ∧ (∃ ρ, gr_b ρ (gr_c (cf_cb σ b)) (gr_c σ)) ∧ cf_cb σ b 0 = σ 0 ∧ cf_cb σ b 7 = σ 7 := by
  have b8 : b < 8 := by
    have := hV.1.2.2.1 w (by have := hV.2.1; omega)
    omega
  obtain ⟨h1, h2, h3, h4, E⟩ := gc_c4 hV hw hb
  obtain ⟨k1, k2, k3, k4, k5⟩ := gc_done hV hw hb E
  exact ⟨⟨b8, h1, h2, h3, h4, k1⟩, k2, ⟨_, k3⟩, k4, k5⟩
theorem HV_cg {σ υ : hs_S} (h : HV σ) (h0 : υ 0 = σ 0) (h1 : υ 1 = σ 1) (h2 : υ 2 = σ 2) (h4 : υ 4 = σ 4) (h5 : υ 5 = σ 5) (h6 : υ 6 = σ 6) (h8 : υ 8 = σ 8) (h9 : υ 9 = σ 9) (h7 : υ 7 0 ≤ 8) : HV υ := by
  unfold HV hv_o hv_u
  rw [h0, h1, h2, h4, h5, h6, h8, h9]
  obtain ⟨a1, a2, a3, a4, a5, a6, a7, a8, a9⟩ := h
  exact ⟨a1, a2, a3, a4, a5, a6, a7, a8, h7⟩
theorem HV_win {σ : hs_S} (h : HV σ) {v : Nat} (hv : v ≤ 8) : HV (hs_st σ 7 0 v) :=
  HV_cg h (hs_fn _ _ _ (by decide)) (hs_fn _ _ _ (by decide)) (hs_fn _ _ _ (by decide)) (hs_fn _ _ _ (by decide)) (hs_fn _ _ _ (by decide)) (hs_fn _ _ _ (by decide)) (hs_fn _ _ _ (by decide)) (hs_fn _ _ _ (by decide)) (by rw [hs_same]; exact hv)
theorem gr_b_id (g : gr_G) : gr_b (fun s p => s = p) g g := by
  have hr : ∀ a, gr_rr (fun s p => s = p) a a := by
    intro a
    by_cases h : a = 0
    · exact Or.inl ⟨h, h⟩
    · exact Or.inr ⟨a - 1, a - 1, by omega, by omega, rfl⟩
  refine ⟨fun s p q h1 h2 => h1.symm.trans h2, fun s t p h1 h2 => h1.trans h2.symm, fun r _ => hr _, fun s p h => ?_⟩
  subst h
  exact ⟨rfl, fun f _ => hr _⟩
theorem gr_c_win (σ : hs_S) (v : Nat) : gr_c (hs_st σ 7 0 v) = gr_c σ := by
  unfold gr_c
  rw [hs_fn _ _ _ (by decide), hs_fn _ _ _ (by decide), hs_fn _ _ _ (by decide)]
/-- the window moves on -/
theorem gc_mw {σ : hs_S} (hV : HV σ) : ck_mw σ ∧ HV (cf_mw σ) ∧ (∃ ρ, gr_b ρ (gr_c (cf_mw σ)) (gr_c σ)) ∧ cf_mw σ 0 = σ 0 := by
  have h7 := hV.2.1
  have hw8 := hV.2.2.2.2.2.2.2.2
  by_cases c2 : σ 5 0 < 2
  · have e : cf_mw σ = σ := if_pos c2
    rw [e]
    exact ⟨⟨by omega, by omega, fun q => by omega⟩, hV, ⟨_, gr_b_id _⟩, rfl⟩
  · have h0 : HV (cf_m0 σ) ∧ gr_c (cf_m0 σ) = gr_c σ ∧ cf_m0 σ 5 0 = σ 5 0 ∧ cf_m0 σ 7 0 + 1 < σ 5 0 ∧ cf_m0 σ 0 = σ 0 := by
      by_cases c : σ 5 0 - 1 ≤ σ 7 0
      · have e : cf_m0 σ = hs_st σ 7 0 0 := if_pos c
        rw [e]
        refine ⟨HV_win hV (by omega), gr_c_win _ _, by rw [hs_fn _ _ _ (by decide)], by rw [hs_same]; omega, hs_fn _ _ _ (by decide)⟩
      · have e : cf_m0 σ = σ := if_neg c
        rw [e]
        exact ⟨hV, rfl, rfl, by omega, rfl⟩
    obtain ⟨a1, a2, a3, a4, a5⟩ := h0
    obtain ⟨k1, k2, ⟨ρ, k3⟩, k4, k5⟩ := gc_cb a1 (w := cf_m0 σ 7 0) (by omega) rfl
    rw [a2] at k3
    have e1 : cf_cb (cf_m0 σ) (cf_m0 σ 6 (cf_m0 σ 7 0)) = cf_m1 σ := rfl
    rw [e1] at k2 k3 k4 k5
    have h17 := k2.2.1
    have hk : ck_mw σ := ⟨by omega, by omega, fun _ _ => ⟨by omega, k1, by omega, by omega⟩⟩
    refine ⟨hk, ?_⟩
    by_cases c : cf_m0 σ 5 0 ≤ cf_m1 σ 5 0
    · have e : cf_mw σ = hs_st (cf_m1 σ) 7 0 (cf_m1 σ 7 0 + 1) := (if_neg c2).trans ((if_neg (by omega)).trans (if_pos c))
      rw [e]
      refine ⟨HV_win k2 (by rw [k5]; omega), ⟨ρ, by rw [gr_c_win]; exact k3⟩, ?_⟩
      rw [hs_fn _ _ _ (by decide)]
      exact k4.trans a5
    · have e : cf_mw σ = cf_m1 σ := (if_neg c2).trans ((if_neg (by omega)).trans (if_neg c))
      rw [e]
      exact ⟨k2, ⟨ρ, k3⟩, k4.trans a5⟩
end
section
set_option maxRecDepth 100000
-- ===== the full clean-up, stretch by stretch =====
theorem ph_2 {υ : hs_S} {q : Nat} (hq : υ 15 0 = q) (h64 : ∀ i, i < q → υ 14 i < 64) (hd : ∀ i j, i < j → j < q → υ 14 i ≠ υ 14 j) :
    (∀ n, n = υ 15 0 → it_k ck_a2b cf_a2b n 0 υ) ∧ (∀ j, j < q → it_f cf_a2b (υ 15 0) 0 υ 10 (υ 14 j) = j + 1) ∧ ∀ k, k ≠ 10 → it_f cf_a2b (υ 15 0) 0 υ k = υ k := by
  rw [hq]
  have hsplit : ∀ {P : Prop}, (it_k ck_a2b cf_a2b q 0 υ ∧ P) → (∀ n, n = q → it_k ck_a2b cf_a2b n 0 υ) ∧ P := fun h => ⟨fun n e => by subst e; exact h.1, h.2⟩
  refine hsplit (it_invK (f := cf_a2b) (k := ck_a2b) (N := q) (fun i u => (∀ j, j < i → u 10 (υ 14 j) = j + 1) ∧ ∀ k, k ≠ 10 → u k = υ k) (fun i u hi J => ?_) υ ⟨fun j hj => absurd hj (Nat.not_lt_zero _), fun _ _ => rfl⟩)
  have e14 := J.2 14 (by decide)
  refine ⟨by show u 14 i < 64; rw [e14]; exact h64 i hi, fun j hj => ?_, fun k hk => ?_⟩
  · show hs_st u 10 (u 14 i) (i + 1) 10 (υ 14 j) = _
    rw [hs_if, e14]
    by_cases e : j = i
    · rw [e, if_pos rfl]
    · rw [if_neg (hd j i (by omega) hi)]
      exact J.1 j (by omega)
  · show hs_st u 10 (u 14 i) (i + 1) k = _
    rw [hs_fn _ _ _ hk]
    exact J.2 k hk
theorem cf_mo_cg {υ u : hs_S} (h : u 10 = υ 10) (r : Nat) : cf_mo u r = cf_mo υ r := by
  unfold cf_mo
  rw [h]
theorem ph_3 {υ : hs_S} {q : Nat} (hq : υ 15 0 = q) (h64 : ∀ i, i < q → υ 14 i < 64) (h4 : ∀ i, i < q → ∀ f, f < 3 → υ 4 (υ 14 i * 3 + f) ≤ 64) :
    (∀ n, n = υ 15 0 → it_k ck_a3b cf_a3b n 0 υ) ∧ (∀ i, i < q → it_f cf_a3b (υ 15 0) 0 υ 16 i = υ 3 (υ 14 i) ∧ ∀ f, f < 3 → it_f cf_a3b (υ 15 0) 0 υ 17 (i * 3 + f) = cf_mo υ (υ 4 (υ 14 i * 3 + f))) ∧ ∀ k, k ≠ 16 → k ≠ 17 → it_f cf_a3b (υ 15 0) 0 υ k = υ k := by
  rw [hq]
  have hsplit : ∀ {P : Prop}, (it_k ck_a3b cf_a3b q 0 υ ∧ P) → (∀ n, n = q → it_k ck_a3b cf_a3b n 0 υ) ∧ P := fun h => ⟨fun n e => by subst e; exact h.1, h.2⟩
  refine hsplit (it_invK (f := cf_a3b) (k := ck_a3b) (N := q) (fun i u => (∀ j, j < i → u 16 j = υ 3 (υ 14 j) ∧ ∀ f, f < 3 → u 17 (j * 3 + f) = cf_mo υ (υ 4 (υ 14 j * 3 + f))) ∧ ∀ k, k ≠ 16 → k ≠ 17 → u k = υ k) (fun i u hi J => ?_) υ ⟨fun j hj => absurd hj (Nat.not_lt_zero _), fun _ _ _ => rfl⟩)
  obtain ⟨j1, j2⟩ := J
  have e14 := j2 14 (by decide) (by decide)
  have e3 := j2 3 (by decide) (by decide)
  have L := it_invK (f := cf_a3f i) (k := ck_a3f i) (N := 3) (fun f v => (∀ f', f' < f → v 17 (i * 3 + f') = cf_mo υ (υ 4 (υ 14 i * 3 + f'))) ∧ (∀ x, (x < i * 3 ∨ i * 3 + 3 ≤ x) → v 17 x = u 17 x) ∧ (∀ x, v 16 x = if x = i then υ 3 (υ 14 i) else u 16 x) ∧ ∀ k, k ≠ 16 → k ≠ 17 → v k = υ k) (fun f v hf I => by
      obtain ⟨i1, i2, i3, i4⟩ := I
      have v14 := i4 14 (by decide) (by decide)
      have v4 := i4 4 (by decide) (by decide)
      refine ⟨⟨by rw [v14]; exact h64 i hi, by rw [v14, v4]; exact h4 i hi f hf⟩, fun f' hf' => ?_, fun x hx => ?_, fun x => ?_, fun k a b => ?_⟩
      · show hs_st v 17 (i * 3 + f) (cf_mo v (v 4 (v 14 i * 3 + f))) 17 (i * 3 + f') = _
        rw [hs_if]
        by_cases e : f' = f
        · rw [e, if_pos rfl, cf_mo_cg (i4 10 (by decide) (by decide)), v14, v4]
        · rw [if_neg (by omega)]
          exact i1 f' (by omega)
      · show hs_st v 17 (i * 3 + f) _ 17 x = _
        rw [hs_if, if_neg (by omega)]
        exact i2 x hx
      · show hs_st v 17 (i * 3 + f) _ 16 x = _
        rw [hs_fn _ _ _ (by decide)]
        exact i3 x
      · show hs_st v 17 (i * 3 + f) _ k = _
        rw [hs_fn _ _ _ b]
        exact i4 k a b) (hs_st u 16 i (u 3 (u 14 i))) ⟨fun f' hf' => absurd hf' (Nat.not_lt_zero _), fun x _ => by rw [hs_fn _ _ _ (by decide)], fun x => by rw [hs_if, e3, e14], fun k a b => by rw [hs_fn _ _ _ a]; exact j2 k a b⟩
  obtain ⟨l0, l1, l2, l3, l4⟩ := L
  refine ⟨⟨by rw [e14]; exact h64 i hi, l0⟩, fun j hj => ?_, l4⟩
  by_cases e : j = i
  · subst e
    exact ⟨(l3 j).trans (if_pos rfl), l1⟩
  · obtain ⟨a1, a2⟩ := j1 j (by omega)
    refine ⟨((l3 j).trans (if_neg e)).trans a1, fun f hf => ?_⟩
    exact (l2 (j * 3 + f) (by omega)).trans (a2 f hf)
theorem ph_4 {υ : hs_S} (h1 : ∀ r, r < 8 → υ 1 r ≤ 64) : it_k ck_a4b cf_a4b 8 0 υ ∧ (∀ r, r < 8 → it_f cf_a4b 8 0 υ 1 r = cf_mo υ (υ 1 r)) ∧ ∀ k, k ≠ 1 → it_f cf_a4b 8 0 υ k = υ k := by
  have h := it_invK (f := cf_a4b) (k := ck_a4b) (N := 8) (fun i u => (∀ j, j < i → u 1 j = cf_mo υ (υ 1 j)) ∧ (∀ j, i ≤ j → u 1 j = υ 1 j) ∧ ∀ k, k ≠ 1 → u k = υ k) (fun i u hi J => by
      obtain ⟨j1, j2, j3⟩ := J
      have e1 := j2 i (Nat.le_refl _)
      refine ⟨by show u 1 i ≤ 64; rw [e1]; exact h1 i hi, fun j hj => ?_, fun j hj => ?_, fun k hk => ?_⟩
      · show hs_st u 1 i (cf_mo u (u 1 i)) 1 j = _
        rw [hs_if]
        by_cases e : j = i
        · rw [if_pos e, cf_mo_cg (j3 10 (by decide)), e1, e]
        · rw [if_neg e]; exact j1 j (by omega)
      · show hs_st u 1 i (cf_mo u (u 1 i)) 1 j = _
        rw [hs_if, if_neg (by omega)]
        exact j2 j (by omega)
      · show hs_st u 1 i (cf_mo u (u 1 i)) k = _
        rw [hs_fn _ _ _ hk]
        exact j3 k hk) υ ⟨fun j hj => absurd hj (Nat.not_lt_zero _), fun _ _ => rfl, fun _ _ => rfl⟩
  exact ⟨h.1, h.2.1, h.2.2.2⟩
theorem ph_5 (υ : hs_S) : (∀ b, b < 8 → it_f cf_a5b 8 0 υ 9 b = 0) ∧ ∀ k, k ≠ 9 → it_f cf_a5b 8 0 υ k = υ k :=
  it_inv0 (f := cf_a5b) (N := 8) (fun i v => (∀ s, s < i → v 9 s = 0) ∧ ∀ k, k ≠ 9 → v k = υ k) (fun i v hi h => ⟨fun s hs => by
      show hs_st v 9 i 0 9 s = _
      rw [hs_if]
      split
      · rfl
      · exact h.1 s (by omega), fun k hk => by
      show hs_st v 9 i 0 k = _
      rw [hs_fn _ _ _ hk]
      exact h.2 k hk⟩) υ ⟨fun s hs => absurd hs (Nat.not_lt_zero s), fun _ _ => rfl⟩
theorem ph_6 {υ : hs_S} (hq : υ 15 0 ≤ 64) : it_k ck_a6b cf_a6b 64 0 υ ∧ (∀ i, i < 64 → it_f cf_a6b 64 0 υ 2 i = if i < υ 15 0 then 1 else 0) ∧ ∀ k, k ≠ 2 → it_f cf_a6b 64 0 υ k = υ k :=
  it_invK (f := cf_a6b) (k := ck_a6b) (N := 64) (fun i v => (∀ s, s < i → v 2 s = if s < υ 15 0 then 1 else 0) ∧ ∀ k, k ≠ 2 → v k = υ k) (fun i v hi h => ⟨by show v 15 0 ≤ 64; rw [h.2 15 (by decide)]; exact hq, fun s hs => by
      show hs_st v 2 i (if i < v 15 0 then 1 else 0) 2 s = _
      rw [hs_if, h.2 15 (by decide)]
      by_cases e : s = i
      · rw [if_pos e, e]
      · rw [if_neg e]; exact h.1 s (by omega), fun k hk => by
      show hs_st v 2 i (if i < v 15 0 then 1 else 0) k = _
      rw [hs_fn _ _ _ hk]
      exact h.2 k hk⟩) υ ⟨fun s hs => absurd hs (Nat.not_lt_zero s), fun _ _ => rfl⟩
theorem ph_7 {υ : hs_S} {q : Nat} (hq : υ 15 0 = q) (h64 : q ≤ 64) (h17 : ∀ i, i < q → ∀ f, f < 3 → υ 17 (i * 3 + f) ≤ 64) (h9 : ∀ c, c < 8 → υ 9 c < 18446744073709551616) :
    (∀ n, n = υ 15 0 → it_k ck_a7b cf_a7b n 0 υ) ∧ (∀ i, i < q → it_f cf_a7b (υ 15 0) 0 υ 3 i = υ 16 i ∧ ∀ f, f < 3 → it_f cf_a7b (υ 15 0) 0 υ 4 (i * 3 + f) = υ 17 (i * 3 + f) ∧ ∀ x, υ 17 (i * 3 + f) = x + 1 → (it_f cf_a7b (υ 15 0) 0 υ 9 (x / 8)).testBit i = true) ∧ (∀ c, c < 8 → it_f cf_a7b (υ 15 0) 0 υ 9 c < 18446744073709551616) ∧ ∀ k, k ≠ 3 → k ≠ 4 → k ≠ 9 → it_f cf_a7b (υ 15 0) 0 υ k = υ k := by
  rw [hq]
  have hsplit : ∀ {P : Prop}, (it_k ck_a7b cf_a7b q 0 υ ∧ P) → (∀ n, n = q → it_k ck_a7b cf_a7b n 0 υ) ∧ P := fun h => ⟨fun n e => by subst e; exact h.1, h.2⟩
  refine hsplit (it_invK (f := cf_a7b) (k := ck_a7b) (N := q) (fun i u => (∀ j, j < i → u 3 j = υ 16 j ∧ ∀ f, f < 3 → u 4 (j * 3 + f) = υ 17 (j * 3 + f) ∧ ∀ x, υ 17 (j * 3 + f) = x + 1 → (u 9 (x / 8)).testBit j = true) ∧ (∀ c, c < 8 → u 9 c < 18446744073709551616) ∧ ∀ k, k ≠ 3 → k ≠ 4 → k ≠ 9 → u k = υ k) (fun i u hi J => ?_) υ ⟨fun j hj => absurd hj (Nat.not_lt_zero _), h9, fun _ _ _ _ => rfl⟩)
  obtain ⟨j1, j2, j3⟩ := J
  have e16 := j3 16 (by decide) (by decide) (by decide)
  have L := it_invK (f := cf_a7f i) (k := ck_a7f i) (N := 3) (fun f v => (∀ f', f' < f → v 4 (i * 3 + f') = υ 17 (i * 3 + f') ∧ ∀ x, υ 17 (i * 3 + f') = x + 1 → (v 9 (x / 8)).testBit i = true) ∧ (∀ x, (x < i * 3 ∨ i * 3 + 3 ≤ x) → v 4 x = u 4 x) ∧ (∀ c t, (u 9 c).testBit t = true → (v 9 c).testBit t = true) ∧ (∀ c, c < 8 → v 9 c < 18446744073709551616) ∧ (∀ x, v 3 x = if x = i then υ 16 i else u 3 x) ∧ ∀ k, k ≠ 3 → k ≠ 4 → k ≠ 9 → v k = υ k) (fun f v hf I => by
      obtain ⟨i1, i2, i3, i4, i5, i6⟩ := I
      have v17 := i6 17 (by decide) (by decide) (by decide)
      have ef : cf_a7f i f v = cf_rem (hs_st v 4 (i * 3 + f) (υ 17 (i * 3 + f))) i (υ 17 (i * 3 + f)) := by
        unfold cf_a7f
        rw [v17]
      have n9 : hs_st v 4 (i * 3 + f) (υ 17 (i * 3 + f)) 9 = v 9 := hs_fn _ _ _ (by decide)
      rw [ef]
      refine ⟨by show v 17 (i * 3 + f) ≤ 64; rw [v17]; exact h17 i hi f hf, fun f' hf' => ⟨?_, fun x hx => ?_⟩, fun x hx => ?_, fun c t hb => ?_, cf_rem_lt (by omega) (by rw [n9]; exact i4), fun x => ?_, fun k a b c => ?_⟩
      · rw [cf_rem_fn (by decide), hs_if]
        by_cases e : f' = f
        · rw [e, if_pos rfl]
        · rw [if_neg (by omega)]
          exact (i1 f' (by omega)).1
      · by_cases e : f' = f
        · rw [e] at hx
          rw [hx]
          exact cf_rem_at
        · refine cf_rem_up ?_
          rw [n9]
          exact (i1 f' (by omega)).2 x hx
      · rw [cf_rem_fn (by decide), hs_if, if_neg (by omega)]
        exact i2 x hx
      · refine cf_rem_up ?_
        rw [n9]
        exact i3 c t hb
      · rw [cf_rem_fn (by decide), hs_fn _ _ _ (by decide)]
        exact i5 x
      · rw [cf_rem_fn c, hs_fn _ _ _ b]
        exact i6 k a b c) (hs_st u 3 i (u 16 i)) ⟨fun f' hf' => absurd hf' (Nat.not_lt_zero _), fun x _ => by rw [hs_fn _ _ _ (by decide)], fun c t hb => by rw [hs_fn _ _ _ (by decide)]; exact hb, fun c hc => by rw [hs_fn _ _ _ (by decide)]; exact j2 c hc, fun x => by rw [hs_if, e16], fun k a b c => by rw [hs_fn _ _ _ a]; exact j3 k a b c⟩
  obtain ⟨l0, l1, l2, l3, l4, l5, l6⟩ := L
  refine ⟨l0, fun j hj => ?_, l4, l6⟩
  by_cases e : j = i
  · subst e
    exact ⟨(l5 j).trans (if_pos rfl), l1⟩
  · obtain ⟨a1, a2⟩ := j1 j (by omega)
    refine ⟨((l5 j).trans (if_neg e)).trans a1, fun f hf => ⟨(l2 (j * 3 + f) (by omega)).trans (a2 f hf).1, fun x hx => ?_⟩⟩
    exact l3 _ _ ((a2 f hf).2 x hx)
theorem ph_8 (υ : hs_S) (n : Nat) : cf_lay υ n 5 0 = cf_lb n ∧ (∀ i, cf_lay υ n 6 i = if i < cf_lb n then i else υ 6 i) ∧ cf_lay υ n 8 0 = n - (cf_lb n - 1) * 8 ∧ cf_lay υ n 7 0 = 0 ∧ ∀ k, k ≠ 5 → k ≠ 6 → k ≠ 7 → k ≠ 8 → cf_lay υ n k = υ k := by
  have h := it_inv0 (f := cf_lob) (N := cf_lb n) (fun i v => (∀ j, v 6 j = if j < i then j else υ 6 j) ∧ ∀ k, k ≠ 6 → v k = hs_st υ 5 0 (cf_lb n) k) (fun i v hi J => ⟨fun j => by
      show hs_st v 6 i i 6 j = _
      rw [hs_if, J.1 j]
      by_cases e : j = i
      · rw [if_pos e, if_pos (by omega), e]
      · rw [if_neg e]
        by_cases c : j < i
        · rw [if_pos c, if_pos (by omega)]
        · rw [if_neg c, if_neg (by omega)], fun k hk => by
      show hs_st v 6 i i k = _
      rw [hs_fn _ _ _ hk]
      exact J.2 k hk⟩) (hs_st υ 5 0 (cf_lb n)) ⟨fun j => by rw [if_neg (Nat.not_lt_zero _), hs_fn _ _ _ (by decide)], fun _ _ => rfl⟩
  have h1 : ∀ j, cf_la υ n 6 j = if j < cf_lb n then j else υ 6 j := h.1
  have h2 : ∀ k, k ≠ 6 → cf_la υ n k = hs_st υ 5 0 (cf_lb n) k := h.2
  have fn : ∀ k, k ≠ 7 → k ≠ 8 → cf_lay υ n k = cf_la υ n k := by
    intro k a b
    show hs_st (hs_st (cf_la υ n) 8 0 _) 7 0 0 k = _
    rw [hs_fn _ _ _ a, hs_fn _ _ _ b]
  refine ⟨?_, fun i => ?_, rfl, rfl, fun k a b c d => ?_⟩
  · rw [fn 5 (by decide) (by decide), h2 5 (by decide), hs_same]
  · rw [fn 6 (by decide) (by decide)]; exact h1 i
  · rw [fn k c d, h2 k b, hs_fn _ _ _ a]
end
section
set_option maxRecDepth 100000
set_option maxHeartbeats 2000000 in
/-- the full clean-up -/
theorem gc_all {σ : hs_S} (hV : HV σ) (hq : cf_walk σ 15 0 < 24) : ck_all σ ∧ HV (cf_all σ) ∧ (∃ ρ, gr_b ρ (gr_c (cf_all σ)) (gr_c σ)) ∧ cf_all σ 0 = σ 0 ∧ cf_all σ 5 0 < 7 := by
  obtain ⟨kw, K, fr⟩ := wk_walk (HV_fit hV)
  obtain ⟨ω, eω⟩ : ∃ ω : hs_S, ω = cf_walk σ := ⟨_, rfl⟩
  rw [← eω] at K fr hq
  obtain ⟨q, eq⟩ : ∃ q, q = ω 15 0 := ⟨_, rfl⟩
  obtain ⟨Q, eQ⟩ : ∃ Q : Nat → Nat, Q = ω 14 := ⟨_, rfl⟩
  have q24 : q < 24 := by omega
  have Qon : ∀ i, i < q → gr_on (gr_c σ) (Q i) := by
    intro i hi
    rw [eq] at hi
    rw [eQ]
    have h1 := K.1.1 i hi
    have h2 := wk_64 K.1
    exact ⟨_, (K.1.2.2.1 _ h1.1 (by omega)).1⟩
  have Qv : ∀ i, i < q → Q i < 64 ∧ σ 2 (Q i) = 1 := fun i hi => by
    obtain ⟨n, hn⟩ := Qon i hi
    exact HV_w hV hn
  have Qd : ∀ i j, i < j → j < q → Q i ≠ Q j := by
    intro i j hij hj
    rw [eq] at hj
    rw [eQ]
    exact (K.1.2.1 i j hij hj).1
  have Qx : ∀ s, gr_on (gr_c σ) s → ∃ j, j < q ∧ Q j = s := by
    intro s hs
    obtain ⟨n, hn⟩ := hs
    obtain ⟨a1, _, a3⟩ := K.2 n s hn
    rw [eq, eQ]
    exact (K.1.2.2.1 s a1 a3).2
  -- stretch 1
  have f1 : ∀ k, k ≠ 10 → cf_a1 σ k = ω k := by
    rw [eω]
    exact (gc_z10 (cf_walk σ)).2
  have a15 : cf_a1 σ 15 0 = q := by rw [f1 15 (by decide), eq]
  have a14 : cf_a1 σ 14 = Q := by rw [f1 14 (by decide), eQ]
  -- stretch 2
  obtain ⟨c2, v2, f2⟩ : (∀ n, n = cf_a1 σ 15 0 → it_k ck_a2b cf_a2b n 0 (cf_a1 σ)) ∧ (∀ j, j < q → cf_a2 σ 10 (cf_a1 σ 14 j) = j + 1) ∧ ∀ k, k ≠ 10 → cf_a2 σ k = cf_a1 σ k := ph_2 a15 (fun i hi => by rw [a14]; exact (Qv i hi).1) (fun i j hij hj => by rw [a14]; exact Qd i j hij hj)
  rw [a14] at v2
  have b15 : cf_a2 σ 15 0 = q := by rw [f2 15 (by decide), a15]
  have b14 : cf_a2 σ 14 = Q := by rw [f2 14 (by decide), a14]
  have g2 : ∀ k, k ≠ 10 → k ≠ 13 → k ≠ 14 → k ≠ 15 → cf_a2 σ k = σ k := fun k x1 x2 x3 x4 => (f2 k x1).trans ((f1 k x1).trans (fr k x2 x3 x4))
  have b4 : cf_a2 σ 4 = σ 4 := g2 4 (by decide) (by decide) (by decide) (by decide)
  have b3 : cf_a2 σ 3 = σ 3 := g2 3 (by decide) (by decide) (by decide) (by decide)
  have mR : ∀ v, (∀ s, v = s + 1 → gr_on (gr_c σ) s) → cf_mo (cf_a2 σ) v ≤ q ∧ gr_rr (fun i s => i < q ∧ Q i = s) (cf_mo (cf_a2 σ) v) v := by
    intro v hv
    by_cases h0 : v = 0
    · have e : cf_mo (cf_a2 σ) v = 0 := if_pos h0
      rw [e]
      exact ⟨Nat.zero_le _, Or.inl ⟨rfl, h0⟩⟩
    · obtain ⟨s, es⟩ : ∃ s, v = s + 1 := ⟨v - 1, by omega⟩
      obtain ⟨j, hj, ej⟩ := Qx s (hv s es)
      have e : cf_mo (cf_a2 σ) v = j + 1 := by
        unfold cf_mo
        rw [if_neg h0, es, show s + 1 - 1 = s by omega, ← ej]
        exact v2 j hj
      rw [e]
      exact ⟨by omega, Or.inr ⟨j, s, rfl, es, hj, ej⟩⟩
  have rOn : ∀ r, r < 8 → ∀ s, σ 1 r = s + 1 → gr_on (gr_c σ) s := fun r hr s hs => ⟨0, r, hr, trivial, hs⟩
  have fOn : ∀ i, i < q → ∀ f, f < 3 → ∀ s, σ 4 (Q i * 3 + f) = s + 1 → gr_on (gr_c σ) s := by
    intro i hi f hf s hs
    obtain ⟨n, hn⟩ := Qon i hi
    exact ⟨n + 1, Q i, f, hn, hf, hs⟩
  -- stretch 3
  obtain ⟨c3, v3, f3⟩ : (∀ n, n = cf_a2 σ 15 0 → it_k ck_a3b cf_a3b n 0 (cf_a2 σ)) ∧ (∀ i, i < q → cf_a3 σ 16 i = cf_a2 σ 3 (cf_a2 σ 14 i) ∧ ∀ f, f < 3 → cf_a3 σ 17 (i * 3 + f) = cf_mo (cf_a2 σ) (cf_a2 σ 4 (cf_a2 σ 14 i * 3 + f))) ∧ ∀ k, k ≠ 16 → k ≠ 17 → cf_a3 σ k = cf_a2 σ k :=
    ph_3 b15 (fun i hi => by rw [b14]; exact (Qv i hi).1) (fun i hi f hf => by
      rw [b14, b4]
      obtain ⟨x1, x2⟩ := Qv i hi
      exact (hV.2.2.2.2.1 _ x1 x2 f hf).1)
  rw [b14, b4, b3] at v3
  -- stretch 4
  have d1 : cf_a3 σ 1 = σ 1 := (f3 1 (by decide) (by decide)).trans (g2 1 (by decide) (by decide) (by decide) (by decide))
  obtain ⟨c4, v4, f4⟩ : it_k ck_a4b cf_a4b 8 0 (cf_a3 σ) ∧ (∀ r, r < 8 → cf_a4 σ 1 r = cf_mo (cf_a3 σ) (cf_a3 σ 1 r)) ∧ ∀ k, k ≠ 1 → cf_a4 σ k = cf_a3 σ k := ph_4 (fun r hr => by rw [d1]; exact (hV.2.2.2.1 r hr).1)
  have v4' : ∀ r, r < 8 → cf_a4 σ 1 r = cf_mo (cf_a2 σ) (σ 1 r) := fun r hr => by rw [v4 r hr, d1, cf_mo_cg (f3 10 (by decide) (by decide))]
  -- stretch 5
  obtain ⟨v5, f5⟩ : (∀ b, b < 8 → cf_a5 σ 9 b = 0) ∧ ∀ k, k ≠ 9 → cf_a5 σ k = cf_a4 σ k := ph_5 (cf_a4 σ)
  have g5 : ∀ k, k ≠ 9 → k ≠ 1 → k ≠ 16 → k ≠ 17 → cf_a5 σ k = cf_a2 σ k := fun k x1 x2 x3 x4 => (f5 k x1).trans ((f4 k x2).trans (f3 k x3 x4))
  have e15 : cf_a5 σ 15 0 = q := by rw [g5 15 (by decide) (by decide) (by decide) (by decide), b15]
  -- stretch 6
  obtain ⟨c6, v6, f6⟩ : it_k ck_a6b cf_a6b 64 0 (cf_a5 σ) ∧ (∀ i, i < 64 → cf_a6 σ 2 i = if i < cf_a5 σ 15 0 then 1 else 0) ∧ ∀ k, k ≠ 2 → cf_a6 σ k = cf_a5 σ k := ph_6 (by rw [e15]; omega)
  rw [e15] at v6
  have h15 : cf_a6 σ 15 0 = q := by rw [f6 15 (by decide), e15]
  have h17 : cf_a6 σ 17 = cf_a3 σ 17 := (f6 17 (by decide)).trans ((f5 17 (by decide)).trans (f4 17 (by decide)))
  have h16 : cf_a6 σ 16 = cf_a3 σ 16 := (f6 16 (by decide)).trans ((f5 16 (by decide)).trans (f4 16 (by decide)))
  -- stretch 7
  obtain ⟨c7, v7, w7, f7⟩ : (∀ n, n = cf_a6 σ 15 0 → it_k ck_a7b cf_a7b n 0 (cf_a6 σ)) ∧ (∀ i, i < q → cf_a7 σ 3 i = cf_a6 σ 16 i ∧ ∀ f, f < 3 → cf_a7 σ 4 (i * 3 + f) = cf_a6 σ 17 (i * 3 + f) ∧ ∀ x, cf_a6 σ 17 (i * 3 + f) = x + 1 → (cf_a7 σ 9 (x / 8)).testBit i = true) ∧ (∀ c, c < 8 → cf_a7 σ 9 c < 18446744073709551616) ∧ ∀ k, k ≠ 3 → k ≠ 4 → k ≠ 9 → cf_a7 σ k = cf_a6 σ k :=
    ph_7 h15 (by omega) (fun i hi f hf => by
      rw [h17, (v3 i hi).2 f hf]
      have := (mR _ (fOn i hi f hf)).1
      omega) (fun c hc => by rw [f6 9 (by decide), v5 c hc]; decide)
  rw [h16, h17] at v7
  have k15 : cf_a7 σ 15 0 = q := by rw [f7 15 (by decide) (by decide) (by decide), h15]
  -- layOut
  obtain ⟨l5, l6, l8, l7, lo⟩ : cf_all σ 5 0 = cf_lb (cf_a7 σ 15 0) ∧ (∀ i, cf_all σ 6 i = if i < cf_lb (cf_a7 σ 15 0) then i else cf_a7 σ 6 i) ∧ cf_all σ 8 0 = cf_a7 σ 15 0 - (cf_lb (cf_a7 σ 15 0) - 1) * 8 ∧ cf_all σ 7 0 = 0 ∧ ∀ k, k ≠ 5 → k ≠ 6 → k ≠ 7 → k ≠ 8 → cf_all σ k = cf_a7 σ k := ph_8 (cf_a7 σ) (cf_a7 σ 15 0)
  rw [k15] at l5 l6 l8
  have hck : ck_all σ := ⟨kw, by rw [a15]; omega, c2, by rw [b15]; omega, c3, c4, by rw [h15]; omega, c6, c7, by rw [k15]; omega⟩
  have old : ∀ k, k ≠ 1 → k ≠ 2 → k ≠ 3 → k ≠ 4 → k ≠ 9 → k ≠ 10 → k ≠ 13 → k ≠ 14 → k ≠ 15 → k ≠ 16 → k ≠ 17 → cf_a7 σ k = σ k := fun k x1 x2 x3 x4 x9 x10 x13 x14 x15 x16 x17 =>
    (f7 k x3 x4 x9).trans ((f6 k x2).trans ((g5 k x9 x1 x16 x17).trans (g2 k x10 x13 x14 x15)))
  have p0 : cf_all σ 0 = σ 0 := (lo 0 (by decide) (by decide) (by decide) (by decide)).trans (old 0 (by decide) (by decide) (by decide) (by decide) (by decide) (by decide) (by decide) (by decide) (by decide) (by decide) (by decide))
  have p6 : cf_a7 σ 6 = σ 6 := old 6 (by decide) (by decide) (by decide) (by decide) (by decide) (by decide) (by decide) (by decide) (by decide) (by decide) (by decide)
  have p1 : ∀ r, r < 8 → cf_all σ 1 r = cf_mo (cf_a2 σ) (σ 1 r) := fun r hr => by
    rw [lo 1 (by decide) (by decide) (by decide) (by decide), f7 1 (by decide) (by decide) (by decide), f6 1 (by decide), f5 1 (by decide)]
    exact v4' r hr
  have p2 : ∀ i, i < 64 → cf_all σ 2 i = if i < q then 1 else 0 := fun i hi => by
    rw [lo 2 (by decide) (by decide) (by decide) (by decide), f7 2 (by decide) (by decide) (by decide)]
    exact v6 i hi
  have p3 : ∀ i, i < q → cf_all σ 3 i = σ 3 (Q i) := fun i hi => by
    rw [lo 3 (by decide) (by decide) (by decide) (by decide), (v7 i hi).1]
    exact (v3 i hi).1
  have p4 : ∀ i, i < q → ∀ f, f < 3 → cf_all σ 4 (i * 3 + f) = cf_mo (cf_a2 σ) (σ 4 (Q i * 3 + f)) := fun i hi f hf => by
    rw [lo 4 (by decide) (by decide) (by decide) (by decide), ((v7 i hi).2 f hf).1]
    exact (v3 i hi).2 f hf
  have p9 : cf_all σ 9 = cf_a7 σ 9 := lo 9 (by decide) (by decide) (by decide) (by decide)
  have lb := cf_lb_b (n := q) (by omega)
  have lb2 : q ≤ cf_lb q * 8 ∧ cf_lb q ≤ 3 := by
    unfold cf_lb
    split <;> omega
  have u1 : ∀ s, s < 64 → cf_all σ 2 s = 1 → s < q := by
    intro s hs h
    rw [p2 s hs] at h
    by_cases c : s < q
    · exact c
    · rw [if_neg c] at h; omega
  have u2 : ∀ s, s < q → cf_all σ 2 s = 1 := fun s hs => by rw [p2 s (by omega), if_pos hs]
  refine ⟨hck, ?_⟩
  clear hck kw c2 c3 c4 c6 c7 old lo f7 f6 f5 f4 f3 f2 f1 g5 g2 h15 h16 h17 k15 a15 a14 b15 b14 b4 b3 d1 e15 v2 v4 v4' v5 v6
  generalize cf_all σ = φ at p0 p1 p2 p3 p4 p9 l5 l6 l8 l7 u1 u2 ⊢
  generalize cf_a7 σ = α7 at p6 p9 l6 v7 w7
  generalize cf_a3 σ = α3 at v3 v7
  generalize cf_a2 σ = α2 at p1 p4 mR v3
  refine ⟨⟨⟨by omega, by omega, fun i hi => ?_, fun i j hij hj => ?_, by omega⟩, by omega, ⟨fun s hs => ?_, fun s hs h1 => ?_⟩, fun r hr => ?_, fun s hs h1 f hf => ?_, by rw [p9]; exact w7, by rw [p0]; exact hV.2.2.2.2.2.2.1, by rw [p0]; exact hV.2.2.2.2.2.2.2.1, by omega⟩, ⟨fun i s => i < q ∧ Q i = s, ?_⟩, p0, by omega⟩
  · rw [l6, p6]
    split
    · exact hi
    · exact hV.1.2.2.1 i hi
  · rw [l6, l6, if_pos (by omega), if_pos (by omega)]
    omega
  · rw [p2 s hs]
    split <;> omega
  · have hsq := u1 s hs h1
    refine ⟨s / 8, by omega, ?_, fun e => by omega⟩
    rw [l6, if_pos (by omega)]
  · rw [p1 r hr]
    have hm := (mR _ (rOn r hr)).1
    exact ⟨by omega, fun s hs => u2 s (by omega)⟩
  · have hsq := u1 s hs h1
    rw [p4 s hsq f hf]
    have hm := (mR _ (fOn s hsq f hf)).1
    refine ⟨by omega, fun t ht => ⟨u2 t (by omega), ?_⟩⟩
    rw [p9]
    refine ((v7 s hsq).2 f hf).2 t ?_
    rw [(v3 s hsq).2 f hf]
    exact ht
  · refine ⟨fun i s s' h1 h2 => h1.2.symm.trans h2.2, fun i j s h1 h2 => ?_, fun r hr => ?_, fun i s h1 => ?_⟩
    · apply Classical.byContradiction
      intro hne
      have e : Q i = Q j := h1.2.trans h2.2.symm
      by_cases c : i < j
      · exact Qd i j c h2.1 e
      · exact Qd j i (by omega) h1.1 e.symm
    · show gr_rr _ (φ 1 r) (σ 1 r)
      rw [p1 r hr]
      exact (mR _ (rOn r hr)).2
    · obtain ⟨hi, es⟩ := h1
      subst es
      refine ⟨p3 i hi, fun f hf => ?_⟩
      show gr_rr _ (φ 4 (i * 3 + f)) (σ 4 (Q i * 3 + f))
      rw [p4 i hi f hf]
      exact (mR _ (fOn i hi f hf)).2
end
section
set_option maxRecDepth 100000
-- ===== the two sides alike =====
def SIM (σ τ : hs_S) : Prop := HV σ ∧ mo_i τ ∧ ∃ ρ, gr_b ρ (gr_c σ) (gr_m τ)
theorem ms_Z_all : ms_Z 4294967295 = gr_all := by
  funext r
  exact propext ⟨fun _ => trivial, fun _ => Or.inl (by omega)⟩
theorem ms_Z_one {a : Nat} (ha : a < 8) : ms_Z a = fun r => r = a := by
  funext r
  refine propext ⟨fun h => ?_, fun h => Or.inr h.symm⟩
  rcases h with h | h
  · omega
  · exact h.symm
theorem SIM_walk {σ υ τ ω : hs_S} (S : SIM σ τ) (h1 : wk_f σ υ) (h2 : mo_f τ ω) : SIM υ ω := by
  obtain ⟨a, b, c⟩ := S
  refine ⟨HV_wk a h1, mo_f_i h2 b, ?_⟩
  rw [wk_f_g h1, mo_f_g h2]
  exact c
/-- from all roots -/
theorem SIM_all {σ τ : hs_S} (S : SIM σ τ) : ck_walk σ ∧ wk_f σ (cf_walk σ) ∧ mk_spread τ 4294967295 ∧ mo_f τ (mf_reach τ) ∧ wk_ok (gr_c σ) gr_all (cf_walk σ) ∧ ms_ok (gr_m τ) gr_all (mf_reach τ) := by
  obtain ⟨a, b, _⟩ := S
  obtain ⟨k1, k2, k3⟩ := wk_walk (HV_fit a)
  obtain ⟨m1, m2, m3⟩ := ms_spread (a := 4294967295) b (by omega)
  rw [ms_Z_all] at m3
  exact ⟨k1, k3, m1, m2, k2, m3⟩
theorem SIM_one {σ τ : hs_S} (S : SIM σ τ) {a : Nat} (ha : a < 8) : ck_from σ a ∧ wk_f σ (cf_from σ a) ∧ mk_spread τ a ∧ mo_f τ (mf_spread τ a) ∧ wk_ok (gr_c σ) (fun r => r = a) (cf_from σ a) ∧ ms_ok (gr_m τ) (fun r => r = a) (mf_spread τ a) := by
  obtain ⟨x, b, _⟩ := S
  obtain ⟨k1, k2, k3⟩ := wk_from ha (HV_fit x)
  obtain ⟨m1, m2, m3⟩ := ms_spread (a := a) b (by omega)
  rw [ms_Z_one ha] at m3
  exact ⟨k1, k3, m1, m2, k2, m3⟩
theorem SIM_count {σ τ : hs_S} (S : SIM σ τ) : cf_walk σ 15 0 = mf_found (mf_reach τ) := by
  obtain ⟨_, _, _, _, K, M⟩ := SIM_all S
  obtain ⟨_, b, ρ, B⟩ := S
  exact jn_found B K M (fun n p h => mo_w24 b h)
theorem sim_root {σ τ : hs_S} {ρ : Nat → Nat → Prop} (hV : HV σ) (hi : mo_i τ) (B : gr_b ρ (gr_c σ) (gr_m τ)) {r : Nat} (hr : r < 8) :
    (σ 1 r = 0 ∧ τ 0 r = 4294967295) ∨ ∃ s p, σ 1 r = s + 1 ∧ τ 0 r = p ∧ s < 64 ∧ p < 24 ∧ σ 2 s = 1 ∧ ρ s p := by
  have h : gr_rr ρ (σ 1 r) (gr_e (τ 0 r)) := B.2.2.1 r hr
  rcases h with ⟨h1, h2⟩ | ⟨s, p, h1, h2, h3⟩
  · exact Or.inl ⟨h1, gr_e_0.mp h2⟩
  · have h4 := gr_e_s h2
    obtain ⟨v1, v2⟩ := HV_rv hV hr s h1
    refine Or.inr ⟨s, p, h1, h4.1, v1, ?_, v2, h3⟩
    rcases hi.1 r hr with q | q <;> omega
theorem mk_ref_of {τ : hs_S} (hi : mo_i τ) : mk_ref τ := hi.1
theorem ck_ref_of {σ : hs_S} (hV : HV σ) : ck_ref σ := fun r hr => (hV.2.2.2.1 r hr).1
-- ===== a root is written =====
theorem HV_root {σ : hs_S} (hV : HV σ) {t v : Nat} (hv : v ≤ 64) (hu : ∀ s, v = s + 1 → σ 2 s = 1) : HV (hs_st σ 1 t v) := by
  have fn : ∀ k, k ≠ 1 → hs_st σ 1 t v k = σ k := fun k h => hs_fn _ _ _ h
  obtain ⟨a1, a2, a3, a4, a5⟩ := hV
  unfold HV hv_o hv_u
  rw [fn 0 (by decide), fn 2 (by decide), fn 4 (by decide), fn 5 (by decide), fn 6 (by decide), fn 7 (by decide), fn 8 (by decide), fn 9 (by decide)]
  refine ⟨a1, a2, a3, fun r hr => ?_, a5⟩
  rw [hs_if]
  split
  · exact ⟨hv, hu⟩
  · exact a4 r hr
theorem mo_root {τ : hs_S} (hi : mo_i τ) {t u : Nat} (hu : u < 24 ∨ u = 4294967295) : mo_i (hs_st τ 0 t u) := by
  refine ⟨fun r hr => ?_, fun i h => ?_⟩
  · rw [hs_if]
    split
    · exact hu
    · exact hi.1 r hr
  · rw [hs_fn _ _ _ (by decide)]
    exact hi.2 i h
theorem gr_root {σ τ : hs_S} {ρ : Nat → Nat → Prop} (B : gr_b ρ (gr_c σ) (gr_m τ)) {t v u : Nat} (h : gr_rr ρ v (gr_e u)) : gr_b ρ (gr_c (hs_st σ 1 t v)) (gr_m (hs_st τ 0 t u)) := by
  refine ⟨B.1, B.2.1, fun r hr => ?_, fun s p hs => ?_⟩
  · show gr_rr ρ (hs_st σ 1 t v 1 r) (gr_e (hs_st τ 0 t u 0 r))
    rw [hs_if, hs_if]
    by_cases e : r = t
    · rw [if_pos e, if_pos e]; exact h
    · rw [if_neg e, if_neg e]; exact B.2.2.1 r hr
  · obtain ⟨b1, b2⟩ := B.2.2.2 s p hs
    refine ⟨?_, fun f hf => ?_⟩
    · show hs_st σ 1 t v 3 s = hs_st τ 0 t u 2 p
      rw [hs_ne _ _ _ _ (by decide), hs_ne _ _ _ _ (by decide)]; exact b1
    · show gr_rr ρ (hs_st σ 1 t v 4 (s * 3 + f)) (gr_e (hs_st τ 0 t u 1 (p * 3 + f)))
      rw [hs_ne _ _ _ _ (by decide), hs_ne _ _ _ _ (by decide)]; exact b2 f hf
theorem SIM_root {σ τ : hs_S} {ρ : Nat → Nat → Prop} (hV : HV σ) (hi : mo_i τ) (B : gr_b ρ (gr_c σ) (gr_m τ)) {t v u : Nat} (hv : v ≤ 64) (hu : ∀ s, v = s + 1 → σ 2 s = 1) (hm : u < 24 ∨ u = 4294967295) (h : gr_rr ρ v (gr_e u)) : SIM (hs_st σ 1 t v) (hs_st τ 0 t u) :=
  ⟨HV_root hV hv hu, mo_root hi hm, ρ, gr_root B h⟩
-- ===== copyRoot, drop, load =====
theorem sim_copy {σ τ : hs_S} (S : SIM σ τ) (a b : Nat) : SIM (cf_copy σ a b) (mf_copy τ a b) := by
  unfold cf_copy mf_copy
  by_cases ha : a < 8
  · by_cases hb : b < 8
    · rw [if_pos ha, if_pos hb, if_pos ha, if_pos hb]
      obtain ⟨hV, hi, ρ, B⟩ := S
      exact SIM_root hV hi B (hV.2.2.2.1 a ha).1 (hV.2.2.2.1 a ha).2 (hi.1 a ha) (B.2.2.1 a ha)
    · rw [if_pos ha, if_neg hb, if_pos ha, if_neg hb]; exact S
  · rw [if_neg ha, if_neg ha]; exact S
theorem sim_drop {σ τ : hs_S} (S : SIM σ τ) (a : Nat) : SIM (cf_drop σ a) (mf_drop τ a) := by
  unfold cf_drop mf_drop
  by_cases ha : a < 8
  · rw [if_pos ha, if_pos ha]
    obtain ⟨hV, hi, ρ, B⟩ := S
    exact SIM_root hV hi B (Nat.zero_le _) (fun s h => by omega) (Or.inr rfl) (Or.inl ⟨rfl, rfl⟩)
  · rw [if_neg ha, if_neg ha]; exact S
theorem sim_ref {σ τ : hs_S} (S : SIM σ τ) (r f t : Nat) : cr_ref σ r f t = mr_ref τ r f t := by
  obtain ⟨hV, hi, ρ, B⟩ := S
  unfold cr_ref mr_ref
  by_cases hr : r < 8
  · rw [if_pos hr, if_pos hr]
    by_cases ht : t < 8
    · rw [if_pos ht, if_pos ht]
      by_cases hf : f < 3
      · rw [if_pos hf, if_pos hf]
        rcases sim_root hV hi B hr with ⟨h1, h2⟩ | ⟨s, p, h1, h2, h3, h4, h5, h6⟩
        · rw [if_pos h1, if_neg (by omega)]
        · rw [if_neg (by omega), if_pos (by omega)]
      · rw [if_neg hf, if_neg hf]
    · rw [if_neg ht, if_neg ht]
  · rw [if_neg hr, if_neg hr]
theorem sim_load {σ τ : hs_S} (S : SIM σ τ) (r f t : Nat) : SIM (cf_load σ r f t) (mf_load τ r f t) := by
  have S0 := S
  obtain ⟨hV, hi, ρ, B⟩ := S
  have hm := mr_ref_0 (τ := τ) (r := r) (f := f) (t := t) hi.1
  by_cases h : r < 8 ∧ t < 8 ∧ f < 3 ∧ σ 1 r ≠ 0
  · obtain ⟨hr, ht, hf, h0⟩ := h
    have e1 : cf_load σ r f t = hs_st σ 1 t (σ 4 ((σ 1 r - 1) * 3 + f)) := by
      unfold cf_load
      rw [if_pos hr, if_pos ht, if_pos hf, if_neg h0]
    rcases sim_root hV hi B hr with ⟨h1, h2⟩ | ⟨s, p, h1, h2, h3, h4, h5, h6⟩
    · exact absurd h1 h0
    · have e2 : mf_load τ r f t = hs_st τ 0 t (τ 1 (p * 3 + f)) := by
        have e0 : mr_ref τ r f t = 0 := by
          unfold mr_ref
          rw [if_pos hr, if_pos ht, if_pos hf, if_pos (by omega)]
        unfold mf_load
        rw [if_pos e0, h2]
      have es : σ 1 r - 1 = s := by omega
      rw [e1, e2, es]
      exact SIM_root hV hi B (hV.2.2.2.2.1 s h3 h5 f hf).1 (fun t ht => ((hV.2.2.2.2.1 s h3 h5 f hf).2 t ht).1) (hi.2 _ (by omega)) ((B.2.2.2 s p h6).2 f hf)
  · have e1 : cf_load σ r f t = σ := by
      unfold cf_load
      by_cases hr : r < 8
      · rw [if_pos hr]
        by_cases ht : t < 8
        · rw [if_pos ht]
          by_cases hf : f < 3
          · rw [if_pos hf, if_pos (Classical.byContradiction (fun q => h ⟨hr, ht, hf, q⟩))]
          · rw [if_neg hf]
        · rw [if_neg ht]
      · rw [if_neg hr]
    have e2 : mf_load τ r f t = τ := by
      unfold mf_load
      refine if_neg (fun q => ?_)
      obtain ⟨a1, a2, a3, a4⟩ := hm q
      apply h
      refine ⟨a1, a2, a3, fun z => ?_⟩
      rcases sim_root hV hi B a1 with ⟨h1, h2⟩ | ⟨s, p, h1, h2, h3, h4, h5, h6⟩ <;> omega
    rw [e1, e2]
    exact S0
-- ===== setPayload, store =====
theorem sim_setp {σ τ : hs_S} (S : SIM σ τ) (r v : Nat) : SIM (cf_setp σ r v) (mf_setp τ r v) ∧ cr_setp σ r = mr_ref τ r 0 r := by
  have S0 := S
  have hR := sim_ref S r 0 r
  have hc : cr_setp σ r = cr_ref σ r 0 r := by
    unfold cr_setp cr_ref
    by_cases hr : r < 8
    · rw [if_pos hr, if_pos hr, if_pos hr, if_pos (show 0 < 3 by decide)]
    · rw [if_neg hr, if_neg hr]
  refine ⟨?_, hc.trans hR⟩
  obtain ⟨hV, hi, ρ, B⟩ := S
  unfold mf_setp
  by_cases h : r < 8 ∧ σ 1 r ≠ 0
  · obtain ⟨hr, h0⟩ := h
    have e1 : cf_setp σ r v = hs_st σ 3 (σ 1 r - 1) v := by
      unfold cf_setp
      rw [if_pos hr, if_neg h0]
    have ez : mr_ref τ r 0 r = 0 := by
      rw [← hR, ← hc]
      unfold cr_setp
      rw [if_pos hr, if_neg h0]
    rcases sim_root hV hi B hr with ⟨h1, h2⟩ | ⟨s, p, h1, h2, h3, h4, h5, h6⟩
    · exact absurd h1 h0
    · have es : σ 1 r - 1 = s := by omega
      rw [e1, es, if_pos ez, h2]
      refine ⟨HV_cg hV (hs_fn _ _ _ (by decide)) (hs_fn _ _ _ (by decide)) (hs_fn _ _ _ (by decide)) (hs_fn _ _ _ (by decide)) (hs_fn _ _ _ (by decide)) (hs_fn _ _ _ (by decide)) (hs_fn _ _ _ (by decide)) (hs_fn _ _ _ (by decide)) (by rw [hs_fn _ _ _ (by decide)]; exact hV.2.2.2.2.2.2.2.2), ?_, ρ, B.1, B.2.1, fun r' hr' => ?_, fun s' p' hs' => ⟨?_, fun f hf => ?_⟩⟩
      · unfold mo_i
        rw [hs_fn _ _ _ (by decide), hs_fn _ _ _ (by decide)]
        exact hi
      · show gr_rr ρ (hs_st σ 3 s v 1 r') (gr_e (hs_st τ 2 p v 0 r'))
        rw [hs_ne _ _ _ _ (by decide), hs_ne _ _ _ _ (by decide)]
        exact B.2.2.1 r' hr'
      · show hs_st σ 3 s v 3 s' = hs_st τ 2 p v 2 p'
        rw [hs_if, hs_if]
        by_cases e : s' = s
        · have ep : p' = p := B.1 s p' p (by rw [← e]; exact hs') h6
          rw [if_pos e, if_pos ep]
        · have ep : ¬ p' = p := fun q => e (B.2.1 s' s p (by rw [← q]; exact hs') h6)
          rw [if_neg e, if_neg ep]
          exact (B.2.2.2 s' p' hs').1
      · show gr_rr ρ (hs_st σ 3 s v 4 (s' * 3 + f)) (gr_e (hs_st τ 2 p v 1 (p' * 3 + f)))
        rw [hs_ne _ _ _ _ (by decide), hs_ne _ _ _ _ (by decide)]
        exact (B.2.2.2 s' p' hs').2 f hf
  · have e1 : cf_setp σ r v = σ := by
      unfold cf_setp
      by_cases hr : r < 8
      · rw [if_pos hr, if_pos (Classical.byContradiction (fun q => h ⟨hr, q⟩))]
      · rw [if_neg hr]
    have e2 : ¬ mr_ref τ r 0 r = 0 := by
      intro q
      obtain ⟨a1, a2, a3, a4⟩ := mr_ref_0 hi.1 q
      apply h
      refine ⟨a1, fun z => ?_⟩
      rcases sim_root hV hi B a1 with ⟨h1, h2⟩ | ⟨s, p, h1, h2, h3, h4, h5, h6⟩ <;> omega
    rw [e1, if_neg e2]
    exact S0
theorem HV_fld {σ : hs_S} (hV : HV σ) {s f v : Nat} (hs : s < 64) (hf : f < 3) (hv : v ≤ 64) (hu : ∀ t, v = t + 1 → σ 2 t = 1) : HV (cf_rem (hs_st σ 4 (s * 3 + f) v) s v) := by
  have fn : ∀ k, k ≠ 9 → k ≠ 4 → cf_rem (hs_st σ 4 (s * 3 + f) v) s v k = σ k := fun k h1 h2 => (cf_rem_fn h1).trans (hs_fn _ _ _ h2)
  have e4 : ∀ i, cf_rem (hs_st σ 4 (s * 3 + f) v) s v 4 i = if i = s * 3 + f then v else σ 4 i := fun i => by rw [cf_rem_fn (by decide), hs_if]
  have n9 : hs_st σ 4 (s * 3 + f) v 9 = σ 9 := hs_fn _ _ _ (by decide)
  obtain ⟨a1, a2, a3, a4, a5, a6, a7⟩ := hV
  have l9 := cf_rem_lt (σ := hs_st σ 4 (s * 3 + f) v) (r := v) hs (by rw [n9]; exact a6)
  unfold HV hv_o hv_u
  rw [fn 0 (by decide) (by decide), fn 1 (by decide) (by decide), fn 2 (by decide) (by decide), fn 5 (by decide) (by decide), fn 6 (by decide) (by decide), fn 7 (by decide) (by decide), fn 8 (by decide) (by decide)]
  refine ⟨a1, a2, a3, a4, fun s' hs' h1 f' hf' => ?_, l9, a7⟩
  rw [e4]
  by_cases e : s' * 3 + f' = s * 3 + f
  · have es : s' = s := by omega
    rw [if_pos e]
    refine ⟨hv, fun t ht => ⟨hu t ht, ?_⟩⟩
    rw [es, ht]
    exact cf_rem_at
  · rw [if_neg e]
    refine ⟨(a5 s' hs' h1 f' hf').1, fun t ht => ?_⟩
    obtain ⟨b1, b2⟩ := (a5 s' hs' h1 f' hf').2 t ht
    exact ⟨b1, cf_rem_up (by rw [n9]; exact b2)⟩
theorem sim_store {σ τ : hs_S} (S : SIM σ τ) (r f t : Nat) : SIM (cf_store σ r f t) (mf_store τ r f t) := by
  have S0 := S
  obtain ⟨hV, hi, ρ, B⟩ := S
  have hm := mr_ref_0 (τ := τ) (r := r) (f := f) (t := t) hi.1
  by_cases h : r < 8 ∧ t < 8 ∧ f < 3 ∧ σ 1 r ≠ 0
  · obtain ⟨hr, ht, hf, h0⟩ := h
    rcases sim_root hV hi B hr with ⟨h1, h2⟩ | ⟨s, p, h1, h2, h3, h4, h5, h6⟩
    · exact absurd h1 h0
    · have es : σ 1 r - 1 = s := by omega
      have e1 : cf_store σ r f t = cf_rem (hs_st σ 4 (s * 3 + f) (σ 1 t)) s (σ 1 t) := by
        unfold cf_store
        rw [if_pos hr, if_pos ht, if_pos hf, if_neg h0, es]
      have e2 : mf_store τ r f t = hs_st τ 1 (p * 3 + f) (τ 0 t) := by
        have e0 : mr_ref τ r f t = 0 := by
          unfold mr_ref
          rw [if_pos hr, if_pos ht, if_pos hf, if_pos (by omega)]
        unfold mf_store
        rw [if_pos e0, h2]
      rw [e1, e2]
      refine ⟨HV_fld hV h3 hf (hV.2.2.2.1 t ht).1 (hV.2.2.2.1 t ht).2, ⟨fun r' hr' => ?_, fun i hi' => ?_⟩, ρ, B.1, B.2.1, fun r' hr' => ?_, fun s' p' hs' => ⟨?_, fun f' hf' => ?_⟩⟩
      · rw [hs_ne _ _ _ _ (by decide)]; exact hi.1 r' hr'
      · rw [hs_if]
        split
        · exact hi.1 t ht
        · exact hi.2 i hi'
      · show gr_rr ρ (cf_rem (hs_st σ 4 (s * 3 + f) (σ 1 t)) s (σ 1 t) 1 r') (gr_e (hs_st τ 1 (p * 3 + f) (τ 0 t) 0 r'))
        rw [cf_rem_ne (by decide), hs_ne _ _ _ _ (by decide), hs_ne _ _ _ _ (by decide)]
        exact B.2.2.1 r' hr'
      · show cf_rem (hs_st σ 4 (s * 3 + f) (σ 1 t)) s (σ 1 t) 3 s' = hs_st τ 1 (p * 3 + f) (τ 0 t) 2 p'
        rw [cf_rem_ne (by decide), hs_ne _ _ _ _ (by decide), hs_ne _ _ _ _ (by decide)]
        exact (B.2.2.2 s' p' hs').1
      · show gr_rr ρ (cf_rem (hs_st σ 4 (s * 3 + f) (σ 1 t)) s (σ 1 t) 4 (s' * 3 + f')) (gr_e (hs_st τ 1 (p * 3 + f) (τ 0 t) 1 (p' * 3 + f')))
        rw [cf_rem_ne (by decide), hs_if, hs_if]
        by_cases e : s' = s ∧ f' = f
        · have ep : p' = p := B.1 s p' p (by rw [← e.1]; exact hs') h6
          rw [if_pos (by rw [e.1, e.2]), if_pos (by rw [ep, e.2])]
          exact B.2.2.1 t ht
        · have ep : ¬ p' * 3 + f' = p * 3 + f := by
            intro q
            have q1 : p' = p := by omega
            have q2 : f' = f := by omega
            exact e ⟨B.2.1 s' s p (by rw [← q1]; exact hs') h6, q2⟩
          rw [if_neg (by omega), if_neg ep]
          exact (B.2.2.2 s' p' hs').2 f' hf'
  · have e1 : cf_store σ r f t = σ := by
      unfold cf_store
      by_cases hr : r < 8
      · rw [if_pos hr]
        by_cases ht : t < 8
        · rw [if_pos ht]
          by_cases hf : f < 3
          · rw [if_pos hf, if_pos (Classical.byContradiction (fun q => h ⟨hr, ht, hf, q⟩))]
          · rw [if_neg hf]
        · rw [if_neg ht]
      · rw [if_neg hr]
    have e2 : mf_store τ r f t = τ := by
      unfold mf_store
      refine if_neg (fun q => ?_)
      obtain ⟨a1, a2, a3, a4⟩ := hm q
      apply h
      refine ⟨a1, a2, a3, fun z => ?_⟩
      rcases sim_root hV hi B a1 with ⟨h1, h2⟩ | ⟨s, p, h1, h2, h3, h4, h5, h6⟩ <;> omega
    rw [e1, e2]
    exact S0
end
section
set_option maxRecDepth 100000
theorem gc_ns (c : Nat) : ∀ (n : Nat) (σ : hs_S), HV σ → σ 0 0 = c → ck_ns c n σ ∧ HV (cf_ns n σ) ∧ (∃ ρ, gr_b ρ (gr_c (cf_ns n σ)) (gr_c σ)) ∧ cf_ns n σ 0 = σ 0 := by
  intro n
  induction n with
  | zero =>
    intro σ hV hc
    exact ⟨hc, hV, ⟨_, gr_b_id _⟩, rfl⟩
  | succ n ih =>
    intro σ hV hc
    have h8 := hV.1.2.2.2.2
    have h5 := hV.2.1
    by_cases c1 : σ 8 0 < 8
    · have e : cf_ns (n + 1) σ = σ := if_pos c1
      rw [e]
      exact ⟨⟨hc, by omega, by omega, fun q => by omega⟩, hV, ⟨_, gr_b_id _⟩, rfl⟩
    · by_cases c2 : σ 5 0 < 7
      · have e : cf_ns (n + 1) σ = σ := (if_neg c1).trans (if_pos c2)
        rw [e]
        exact ⟨⟨hc, by omega, by omega, fun _ q => by omega⟩, hV, ⟨_, gr_b_id _⟩, rfl⟩
      · have e : cf_ns (n + 1) σ = cf_ns n (cf_mw σ) := (if_neg c1).trans (if_neg c2)
        obtain ⟨k1, k2, ⟨ρ, k3⟩, k4⟩ := gc_mw hV
        obtain ⟨i1, i2, ⟨κ, i3⟩, i4⟩ := ih (cf_mw σ) k2 (by rw [k4]; exact hc)
        rw [e]
        exact ⟨⟨hc, by omega, by omega, fun _ _ => ⟨k1, i1⟩⟩, i2, ⟨_, gr_b_trans i3 k3⟩, i4.trans k4⟩
theorem gc_co (c : Nat) : ∀ (n : Nat) (σ : hs_S), HV σ → σ 0 0 = c → ck_co c n σ ∧ HV (cf_co n σ) ∧ (∃ ρ, gr_b ρ (gr_c (cf_co n σ)) (gr_c σ)) ∧ cf_co n σ 0 = σ 0 := by
  intro n
  induction n with
  | zero =>
    intro σ hV hc
    exact ⟨hc, hV, ⟨_, gr_b_id _⟩, rfl⟩
  | succ n ih =>
    intro σ hV hc
    obtain ⟨k1, k2, ⟨ρ, k3⟩, k4⟩ := gc_mw hV
    obtain ⟨i1, i2, ⟨κ, i3⟩, i4⟩ := ih (cf_mw σ) k2 (by rw [k4]; exact hc)
    exact ⟨⟨hc, k1, i1⟩, i2, ⟨_, gr_b_trans i3 k3⟩, i4.trans k4⟩
theorem SIM_bis {σ υ τ : hs_S} (S : SIM σ τ) (hV : HV υ) (hb : ∃ ρ, gr_b ρ (gr_c υ) (gr_c σ)) : SIM υ τ := by
  obtain ⟨_, hi, κ, B⟩ := S
  obtain ⟨ρ, R⟩ := hb
  exact ⟨hV, hi, _, gr_b_trans R B⟩
theorem sim_collect {σ τ : hs_S} (S : SIM σ τ) : (σ 0 0 ≤ 8 ∧ ck_co (σ 0 0) (σ 0 0) σ) ∧ SIM (cf_co (σ 0 0) σ) τ := by
  obtain ⟨k1, k2, k3, _⟩ := gc_co (σ 0 0) (σ 0 0) σ S.1 rfl
  exact ⟨⟨S.1.2.2.2.2.2.2.2.1, k1⟩, SIM_bis S k2 k3⟩
/-- ahead of a new slot -/
theorem sim_n2 {σ τ : hs_S} (S : SIM σ τ) (hn : mf_found (mf_reach τ) < 24) : (ck_bump (cf_n2 σ) → ck_new σ) ∧ SIM (cf_n2 σ) τ ∧ (cf_n2 σ 8 0 < 8 ∨ cf_n2 σ 5 0 < 7) := by
  obtain ⟨k1, k2, k3, k4⟩ := gc_ns (σ 0 0) (2 * σ 0 0) σ S.1 rfl
  have e1 : cf_ns (2 * σ 0 0) σ = cf_n1 σ := rfl
  rw [e1] at k2 k3 k4
  have S1 := SIM_bis S k2 k3
  have h8 := k2.1.2.2.2.2
  have h5 := k2.2.1
  have h0 := S.1.2.2.2.2.2.2.2.1
  have hw : cf_walk (cf_n1 σ) 15 0 < 24 := by rw [SIM_count S1]; exact hn
  obtain ⟨a1, a2, a3, a4, a5⟩ := gc_all k2 hw
  refine ⟨fun hb => ⟨h0, k1, by omega, by omega, fun _ _ => a1, hb⟩, ?_⟩
  by_cases c1 : cf_n1 σ 8 0 < 8
  · have e : cf_n2 σ = cf_n1 σ := if_pos c1
    rw [e]
    exact ⟨S1, Or.inl c1⟩
  · by_cases c2 : cf_n1 σ 5 0 < 7
    · have e : cf_n2 σ = cf_n1 σ := (if_neg c1).trans (if_pos c2)
      rw [e]
      exact ⟨S1, Or.inr c2⟩
    · have e : cf_n2 σ = cf_all (cf_n1 σ) := (if_neg c1).trans (if_neg c2)
      rw [e]
      exact ⟨SIM_bis S1 a2 a3, Or.inr a5⟩
theorem k1_c (t : Nat) (u : hs_S) : (∀ f, f < 3 → it_f (cf_k1 t) 3 0 u 4 (t * 3 + f) = 0) ∧ (∀ j, (j < t * 3 ∨ t * 3 + 3 ≤ j) → it_f (cf_k1 t) 3 0 u 4 j = u 4 j) ∧ ∀ k, k ≠ 4 → it_f (cf_k1 t) 3 0 u k = u k := by
  refine it_inv0 (f := cf_k1 t) (N := 3) (fun f v => (∀ f', f' < f → v 4 (t * 3 + f') = 0) ∧ (∀ j, (j < t * 3 ∨ t * 3 + 3 ≤ j) → v 4 j = u 4 j) ∧ ∀ k, k ≠ 4 → v k = u k) (fun f v hf I => ?_) u ⟨fun f' hf' => absurd hf' (Nat.not_lt_zero _), fun _ _ => rfl, fun _ _ => rfl⟩
  obtain ⟨i1, i2, i3⟩ := I
  refine ⟨fun f' hf' => ?_, fun j hj => ?_, fun k hk => ?_⟩
  · show hs_st v 4 (t * 3 + f) 0 4 (t * 3 + f') = _
    rw [hs_if]
    by_cases q : f' = f
    · rw [if_pos (by omega)]
    · rw [if_neg (by omega)]
      exact i1 f' (by omega)
  · show hs_st v 4 (t * 3 + f) 0 4 j = _
    rw [hs_if, if_neg (by omega)]
    exact i2 j hj
  · show hs_st v 4 (t * 3 + f) 0 k = _
    rw [hs_fn _ _ _ hk]
    exact i3 k hk
theorem k1_m (t : Nat) (u : hs_S) : (∀ f, f < 3 → it_f (mf_k1 t) 3 0 u 1 (t * 3 + f) = 4294967295) ∧ (∀ j, (j < t * 3 ∨ t * 3 + 3 ≤ j) → it_f (mf_k1 t) 3 0 u 1 j = u 1 j) ∧ ∀ k, k ≠ 1 → it_f (mf_k1 t) 3 0 u k = u k := by
  refine it_inv0 (f := mf_k1 t) (N := 3) (fun f v => (∀ f', f' < f → v 1 (t * 3 + f') = 4294967295) ∧ (∀ j, (j < t * 3 ∨ t * 3 + 3 ≤ j) → v 1 j = u 1 j) ∧ ∀ k, k ≠ 1 → v k = u k) (fun f v hf I => ?_) u ⟨fun f' hf' => absurd hf' (Nat.not_lt_zero _), fun _ _ => rfl, fun _ _ => rfl⟩
  obtain ⟨i1, i2, i3⟩ := I
  refine ⟨fun f' hf' => ?_, fun j hj => ?_, fun k hk => ?_⟩
  · show hs_st v 1 (t * 3 + f) 4294967295 1 (t * 3 + f') = _
    rw [hs_if]
    by_cases q : f' = f
    · rw [if_pos (by omega)]
    · rw [if_neg (by omega)]
      exact i1 f' (by omega)
  · show hs_st v 1 (t * 3 + f) 4294967295 1 j = _
    rw [hs_if, if_neg (by omega)]
    exact i2 j hj
  · show hs_st v 1 (t * 3 + f) 4294967295 k = _
    rw [hs_fn _ _ _ hk]
    exact i3 k hk
/-- a new object on both sides -/
theorem sim_mk {π τ φ ψ : hs_S} {t p r v : Nat} (S : SIM π τ) (hp : p < 24) (hun : ¬ gr_on (gr_m τ) p)
    (vo : hv_o φ) (v5 : φ 5 0 ≤ 7) (vu : hv_u φ) (t64 : t < 64) (tu : π 2 t = 0) (e2 : ∀ s, φ 2 s = if s = t then 1 else π 2 s) (e9 : ∀ b, φ 9 b = π 9 b ∨ (φ 9 b = 0 ∧ ∀ i, i < π 5 0 → π 6 i ≠ b))
    (e0 : φ 0 = π 0) (e7 : φ 7 = π 7) (e1 : ∀ x, φ 1 x = if x = r then t + 1 else π 1 x) (e3 : ∀ s, φ 3 s = if s = t then v else π 3 s) (e4 : ∀ f, f < 3 → φ 4 (t * 3 + f) = 0) (e4' : ∀ j, (j < t * 3 ∨ t * 3 + 3 ≤ j) → φ 4 j = π 4 j)
    (d0 : ∀ x, ψ 0 x = if x = r then p else τ 0 x) (d1 : ∀ f, f < 3 → ψ 1 (p * 3 + f) = 4294967295) (d1' : ∀ j, (j < p * 3 ∨ p * 3 + 3 ≤ j) → ψ 1 j = τ 1 j) (d2 : ∀ s, ψ 2 s = if s = p then v else τ 2 s) : SIM φ ψ := by
  obtain ⟨hV, hi, ρ, B⟩ := S
  have m2 : ∀ s, π 2 s = 1 → φ 2 s = 1 := by
    intro s h
    rw [e2]
    split
    · rfl
    · exact h
  have f4 : ∀ s, s ≠ t → ∀ f, f < 3 → φ 4 (s * 3 + f) = π 4 (s * 3 + f) := fun s h f hf => e4' _ (by omega)
  have g1 : ∀ q, q ≠ p → ∀ f, f < 3 → ψ 1 (q * 3 + f) = τ 1 (q * 3 + f) := fun q h f hf => d1' _ (by omega)
  have ont : ∀ s, gr_on (gr_c π) s → s ≠ t := by
    intro s hs e
    obtain ⟨n, hn⟩ := hs
    have := (HV_w hV hn).2
    rw [e] at this
    omega
  have onp : ∀ s q, ρ s q → gr_on (gr_c π) s → q ≠ p := by
    intro s q h1 h2 e
    obtain ⟨n, hn⟩ := h2
    exact hun ⟨n, by rw [← e]; exact gr_b_wp B hn h1⟩
  have Bo := gr_b_on B
  refine ⟨⟨vo, v5, vu, fun x hx => ?_, fun s hs h1 f hf => ?_, fun b hb => ?_, by rw [e0]; exact hV.2.2.2.2.2.2.1, by rw [e0]; exact hV.2.2.2.2.2.2.2.1, by rw [e7]; exact hV.2.2.2.2.2.2.2.2⟩, ⟨fun x hx => ?_, fun i h72 => ?_⟩, fun s q => (ρ s q ∧ gr_on (gr_c π) s) ∨ (s = t ∧ q = p), ?_, ?_, fun x hx => ?_, fun s q hs => ?_⟩
  · rw [e1]
    by_cases e : x = r
    · rw [if_pos e]
      refine ⟨by omega, fun s hs => ?_⟩
      rw [e2, if_pos (by omega)]
    · rw [if_neg e]
      exact ⟨(hV.2.2.2.1 x hx).1, fun s hs => m2 s ((hV.2.2.2.1 x hx).2 s hs)⟩
  · by_cases e : s = t
    · rw [e, e4 f hf]
      exact ⟨Nat.zero_le _, fun y hy => by omega⟩
    · rw [e2, if_neg e] at h1
      rw [f4 s e f hf]
      obtain ⟨a1, a2⟩ := hV.2.2.2.2.1 s hs h1 f hf
      refine ⟨a1, fun y hy => ?_⟩
      obtain ⟨b1, b2⟩ := a2 y hy
      refine ⟨m2 y b1, ?_⟩
      obtain ⟨i, i1, i2, _⟩ := hV.2.2.1.2 y (by omega) b1
      rcases e9 (y / 8) with c | ⟨_, c⟩
      · rw [c]; exact b2
      · exact absurd i2 (c i i1)
  · rcases e9 b with c | ⟨c, _⟩
    · rw [c]; exact hV.2.2.2.2.2.1 b hb
    · rw [c]; decide
  · rw [d0]
    split
    · exact Or.inl hp
    · exact hi.1 x hx
  · by_cases c : i / 3 = p
    · have ei : i = p * 3 + i % 3 := by omega
      rw [ei, d1 _ (Nat.mod_lt _ (by decide))]
      exact Or.inr rfl
    · rw [d1' i (by omega)]
      exact hi.2 i h72
  · rintro s q q' (h1 | h1) (h2 | h2)
    · exact B.1 s q q' h1.1 h2.1
    · exact absurd h2.1 (ont s h1.2)
    · exact absurd h1.1 (ont s h2.2)
    · exact h1.2.trans h2.2.symm
  · rintro s s' q (h1 | h1) (h2 | h2)
    · exact B.2.1 s s' q h1.1 h2.1
    · exact absurd h2.2 (onp s q h1.1 h1.2)
    · exact absurd h1.2 (onp s' q h2.1 h2.2)
    · exact h1.1.trans h2.1.symm
  · show gr_rr _ (φ 1 x) (gr_e (ψ 0 x))
    rw [e1, d0]
    by_cases e : x = r
    · rw [if_pos e, if_pos e]
      exact Or.inr ⟨t, p, rfl, gr_e_n (by omega), Or.inr ⟨rfl, rfl⟩⟩
    · rw [if_neg e, if_neg e]
      exact gr_rr_mono (Bo.2.2.1 x hx) (fun s q _ _ h => Or.inl h)
  · rcases hs with hs | ⟨rfl, rfl⟩
    · have hst := ont s hs.2
      have hqp := onp s q hs.1 hs.2
      obtain ⟨b1, b2⟩ := Bo.2.2.2 s q hs
      refine ⟨?_, fun f hf => ?_⟩
      · show φ 3 s = ψ 2 q
        rw [e3, d2, if_neg hst, if_neg hqp]
        exact b1
      · show gr_rr _ (φ 4 (s * 3 + f)) (gr_e (ψ 1 (q * 3 + f)))
        rw [f4 s hst f hf, g1 q hqp f hf]
        exact gr_rr_mono (b2 f hf) (fun _ _ _ _ h => Or.inl h)
    · refine ⟨?_, fun f hf => ?_⟩
      · show φ 3 s = ψ 2 q
        rw [e3, d2, if_pos rfl, if_pos rfl]
      · show gr_rr _ (φ 4 (s * 3 + f)) (gr_e (ψ 1 (q * 3 + f)))
        rw [e4 f hf, d1 f hf]
        exact Or.inl ⟨rfl, rfl⟩
theorem sim_make1 {π τ : hs_S} {p r v : Nat} (S : SIM π τ) (hr : π 8 0 < 8 ∨ π 5 0 < 7) (hp : p < 24) (hun : ¬ gr_on (gr_m τ) p) :
    ck_bump π ∧ cf_bs π < 64 ∧ SIM (hs_st (it_f (cf_k1 (cf_bs π)) 3 0 (hs_st (cf_bump π) 3 (cf_bs π) v)) 1 r (cf_bs π + 1)) (hs_st (hs_st (it_f (mf_k1 p) 3 0 τ) 2 p v) 0 r p) := by
  obtain ⟨p1, p2, p3, p4, p5, p6, p7, p8, p9, p10, p11⟩ := bp_bump S.1.1 S.1.2.2.1 (by omega)
  have h57 := S.1.2.1
  refine ⟨p1, p4, ?_⟩
  obtain ⟨c1, c2, c3⟩ := k1_c (cf_bs π) (hs_st (cf_bump π) 3 (cf_bs π) v)
  obtain ⟨m1, m2, m3⟩ := k1_m p τ
  generalize cf_bs π = t at p4 p5 p6 p10 c1 c2 c3 ⊢
  have rd : ∀ k, k ≠ 1 → k ≠ 4 → k ≠ 3 → hs_st (it_f (cf_k1 t) 3 0 (hs_st (cf_bump π) 3 t v)) 1 r (t + 1) k = cf_bump π k := fun k a1 a4 a3 => (hs_fn _ _ _ a1).trans ((c3 k a4).trans (hs_fn _ _ _ a3))
  have r4 : hs_st (it_f (cf_k1 t) 3 0 (hs_st (cf_bump π) 3 t v)) 1 r (t + 1) 4 = it_f (cf_k1 t) 3 0 (hs_st (cf_bump π) 3 t v) 4 := hs_fn _ _ _ (by decide)
  have b4 : hs_st (cf_bump π) 3 t v 4 = π 4 := (hs_fn _ _ _ (by decide)).trans (p7 4 (by decide) (by decide) (by decide) (by decide) (by decide))
  refine sim_mk (t := t) (p := p) (r := r) (v := v) S hp hun ?_ ?_ ?_ p4 p5 ?_ ?_ ?_ ?_ ?_ ?_ ?_ ?_ ?_ ?_ ?_ ?_
  · unfold hv_o
    rw [rd 5 (by decide) (by decide) (by decide), rd 6 (by decide) (by decide) (by decide), rd 8 (by decide) (by decide) (by decide)]
    exact p2
  · rw [rd 5 (by decide) (by decide) (by decide)]
    rcases p11 with q | q <;> omega
  · unfold hv_u
    rw [rd 2 (by decide) (by decide) (by decide), rd 5 (by decide) (by decide) (by decide), rd 6 (by decide) (by decide) (by decide), rd 8 (by decide) (by decide) (by decide)]
    exact p3
  · rw [rd 2 (by decide) (by decide) (by decide)]
    exact p6
  · rw [rd 9 (by decide) (by decide) (by decide)]
    exact p9
  · rw [rd 0 (by decide) (by decide) (by decide)]
    exact p7 0 (by decide) (by decide) (by decide) (by decide) (by decide)
  · rw [rd 7 (by decide) (by decide) (by decide)]
    exact p7 7 (by decide) (by decide) (by decide) (by decide) (by decide)
  · intro x
    rw [hs_if, c3 1 (by decide), hs_ne _ _ _ _ (by decide), p7 1 (by decide) (by decide) (by decide) (by decide) (by decide)]
  · intro s
    rw [hs_ne _ _ _ _ (by decide), c3 3 (by decide), hs_if, p7 3 (by decide) (by decide) (by decide) (by decide) (by decide)]
  · intro f hf
    rw [r4]
    exact c1 f hf
  · intro j hj
    rw [r4, c2 j hj, b4]
  · intro x
    rw [hs_if, hs_ne _ _ _ _ (by decide), m3 0 (by decide)]
  · intro f hf
    rw [hs_ne _ _ _ _ (by decide), hs_ne _ _ _ _ (by decide)]
    exact m1 f hf
  · intro j hj
    rw [hs_ne _ _ _ _ (by decide), hs_ne _ _ _ _ (by decide)]
    exact m2 j hj
  · intro s
    rw [hs_ne _ _ _ _ (by decide), hs_if, m3 2 (by decide)]
theorem sim_make {σ τ : hs_S} (S : SIM σ τ) (r v : Nat) : ck_make σ r ∧ mk_make τ r ∧ cr_make σ r = mr_make τ r ∧ SIM (cf_make σ r v) (mf_make τ r v) := by
  by_cases hr : r < 8
  · obtain ⟨w1, w2, w3, w4, K, M⟩ := SIM_all S
    have hc := SIM_count S
    have hle := mf_found_le (mf_reach τ)
    have S1 : SIM (cf_walk σ) τ := SIM_walk S w2 (mo_f_rf _)
    have hmr : mk_reach τ := ⟨w3, fun o ho => ms_1000 M.1 ho⟩
    by_cases hf : mf_found (mf_reach τ) = 24
    · have e1 : cf_make σ r v = cf_walk σ := by unfold cf_make; rw [if_pos hr, if_pos (by omega)]
      have e2 : mf_make τ r v = mf_reach τ := by unfold mf_make; rw [if_pos hr, if_pos hf]
      have e3 : cr_make σ r = mr_make τ r := by unfold cr_make mr_make; rw [if_pos hr, if_pos hr, if_pos (by omega), if_pos hf]
      rw [e1, e2]
      exact ⟨fun _ => ⟨w1, by omega, fun q => by omega⟩, fun _ => ⟨hmr, by omega, fun q => absurd hf q⟩, e3, SIM_walk S w2 w4⟩
    · obtain ⟨o, ho, ho2⟩ := mf_found_lt hf
      obtain ⟨p24, p1000⟩ := mf_place_b (ω := mf_reach τ) ⟨o, ho, by rcases M.1 o ho with q | q <;> omega⟩
      have hun : ¬ gr_on (gr_m τ) (mf_place (mf_reach τ)) := by
        rintro ⟨n, hn⟩
        obtain ⟨_, hi, ρ, B⟩ := S
        obtain ⟨s, hs, hw⟩ := gr_b_v B hn
        have := (jn_dist B K M (fun n p h => mo_w24 hi h) hs hw).2
        omega
      obtain ⟨n1, n2, n3⟩ := sim_n2 S1 (by omega)
      have S2 : SIM (cf_n2 (cf_walk σ)) (mf_reach τ) := SIM_walk n2 (wk_f_rf _) w4
      obtain ⟨b1, b2, b3⟩ := sim_make1 (r := r) (v := v) S2 n3 p24 (by rw [mo_f_g w4]; exact hun)
      have e1 : cf_make σ r v = cf_mk (cf_walk σ) r v := by unfold cf_make; rw [if_pos hr, if_neg (by omega)]
      have e2 : mf_make τ r v = mf_mk (mf_reach τ) r v := by unfold mf_make; rw [if_pos hr, if_neg hf]
      have e3 : cr_make σ r = mr_make τ r := by unfold cr_make mr_make; rw [if_pos hr, if_pos hr, if_neg (by omega), if_neg hf]
      rw [e1, e2]
      exact ⟨fun _ => ⟨w1, by omega, fun _ => ⟨n1 b1, b2⟩⟩, fun _ => ⟨hmr, by omega, fun _ => p24⟩, e3, b3⟩
  · have e1 : cf_make σ r v = σ := if_neg hr
    have e2 : mf_make τ r v = τ := if_neg hr
    have e3 : cr_make σ r = mr_make τ r := by unfold cr_make mr_make; rw [if_neg hr, if_neg hr]
    rw [e1, e2]
    exact ⟨fun q => absurd q hr, fun q => absurd q hr, e3, S⟩
end
section
set_option maxRecDepth 100000
theorem sim_emp {σ τ : hs_S} {ρ : Nat → Nat → Prop} (hV : HV σ) (hi : mo_i τ) (B : gr_b ρ (gr_c σ) (gr_m τ)) (r : Nat) :
    (cf_emp σ r = 0 ∧ mr_held τ r = 1 ∧ r < 8 ∧ ∃ s p, σ 1 r = s + 1 ∧ τ 0 r = p ∧ s < 64 ∧ p < 24 ∧ ρ s p ∧ mf_obj τ r = p) ∨ (cf_emp σ r = 1 ∧ mr_held τ r = 0 ∧ ¬ mf_obj τ r < 2147483648) := by
  unfold cf_emp mr_held mf_obj
  by_cases hr : r < 8
  · rw [if_pos hr, if_pos hr]
    rcases sim_root hV hi B hr with ⟨h1, h2⟩ | ⟨s, p, h1, h2, h3, h4, h5, h6⟩
    · refine Or.inr ⟨if_pos h1, if_neg (by omega), by omega⟩
    · exact Or.inl ⟨if_neg (by omega), if_pos (by omega), hr, s, p, h1, h2, h3, h4, h6, h2⟩
  · rw [if_neg hr, if_neg hr]
    exact Or.inr ⟨rfl, if_neg (by omega), by omega⟩
theorem sim_pay {σ τ : hs_S} (S : SIM σ τ) (r : Nat) : cr_pay σ r = mr_pay τ r := by
  obtain ⟨hV, hi, ρ, B⟩ := S
  unfold cr_pay mr_pay
  rcases sim_emp hV hi B r with ⟨h1, h2, hr, s, p, a1, a2, a3, a4, a5, a6⟩ | ⟨h1, h2, h3⟩
  · rw [if_pos h1, a6, if_pos (by omega), a1]
    exact (B.2.2.2 s p a5).1
  · rw [if_neg (by omega), if_neg h3]
theorem sim_held {σ τ : hs_S} (S : SIM σ τ) (r : Nat) : cr_held σ r = mr_held τ r := by
  obtain ⟨hV, hi, ρ, B⟩ := S
  unfold cr_held
  rcases sim_emp hV hi B r with ⟨h1, h2, hr, s, p, a1, a2, a3, a4, a5, a6⟩ | ⟨h1, h2, h3⟩
  · rw [if_pos h1, h2]
  · rw [if_neg (by omega), h2]
theorem sim_same {σ τ : hs_S} (S : SIM σ τ) (a b : Nat) : cr_same σ a b = mr_same τ a b := by
  obtain ⟨hV, hi, ρ, B⟩ := S
  unfold cr_same mr_same
  rcases sim_emp hV hi B a with ⟨h1, h2, hr, s, p, a1, a2, a3, a4, a5, a6⟩ | ⟨h1, h2, h3⟩
  · rw [if_pos h1, if_neg (show ¬ mr_held τ a = 0 by omega)]
    rcases sim_emp hV hi B b with ⟨k1, k2, kr, s', p', b1, b2, b3, b4, b5, b6⟩ | ⟨k1, k2, k3⟩
    · rw [if_pos k1, if_neg (show ¬ mr_held τ b = 0 by omega), a1, b1, a2, b2]
      by_cases e : s = s'
      · have ep : p = p' := B.1 s p p' a5 (by rw [e]; exact b5)
        rw [if_pos (by omega), if_pos ep]
      · have ep : ¬ p = p' := fun q => e (B.2.1 s s' p a5 (by rw [q]; exact b5))
        rw [if_neg (by omega), if_neg ep]
    · rw [if_neg (by omega), if_pos k2]
  · rw [if_neg (by omega), if_pos h2]
theorem sim_reach {σ τ : hs_S} (S : SIM σ τ) : ck_walk σ ∧ mk_reach τ ∧ cf_walk σ 15 0 = mf_found (mf_reach τ) ∧ SIM (cf_walk σ) (mf_reach τ) := by
  obtain ⟨w1, w2, w3, w4, K, M⟩ := SIM_all S
  exact ⟨w1, ⟨w3, fun o ho => ms_1000 M.1 ho⟩, SIM_count S, SIM_walk S w2 w4⟩
theorem sim_sum {σ τ : hs_S} (S : SIM σ τ) : ck_sum σ ∧ mk_sum τ ∧ cr_sum σ = mr_sum τ ∧ SIM (cf_walk σ) (mf_reach τ) := by
  obtain ⟨w1, w2, w3, w4, K, M⟩ := SIM_all S
  refine ⟨⟨w1, wk_64 K.1, fun i hi => (K.1.1 i hi).1⟩, ⟨w3, fun o ho => ms_1000 M.1 ho⟩, ?_, SIM_walk S w2 w4⟩
  obtain ⟨_, hi, ρ, B⟩ := S
  exact jn_sum B K M (fun n p h => mo_w24 hi h) (w2 3 (by decide) (by decide) (by decide)) (w4 2 (by decide))
theorem sim_rf {σ τ : hs_S} (S : SIM σ τ) (r : Nat) : (cf_emp σ r = 0 → ck_from σ r) ∧ mk_rf τ r ∧ cr_rf σ r = mr_rf τ r ∧ SIM (cf_rf σ r) (mf_rf τ r) := by
  have S0 := S
  obtain ⟨hV, hi, ρ, B⟩ := S
  unfold cr_rf mr_rf cf_rf mf_rf mk_rf
  rcases sim_emp hV hi B r with ⟨h1, h2, hr, s, p, a1, a2, a3, a4, a5, a6⟩ | ⟨h1, h2, h3⟩
  · obtain ⟨w1, w2, w3, w4, K, M⟩ := SIM_one S0 hr
    have hn : ¬ mr_held τ r = 0 := by omega
    rw [if_pos h1, if_neg hn, if_pos h1, if_neg hn]
    exact ⟨fun _ => w1, ⟨hi.1, fun _ => ⟨w3, fun o ho => ms_1000 M.1 ho⟩⟩, jn_found B K M (fun n p h => mo_w24 hi h), SIM_walk S0 w2 w4⟩
  · have hn : ¬ cf_emp σ r = 0 := by omega
    rw [if_neg hn, if_pos h2, if_neg hn, if_pos h2]
    exact ⟨fun q => absurd q hn, ⟨hi.1, fun q => absurd h2 q⟩, rfl, S0⟩
theorem jn_dv {ρ : Nat → Nat → Prop} {g h : gr_G} {Z : Nat → Prop} {υ ω : hs_S} (B : gr_b ρ g h) (K : wk_ok g Z υ) (M : ms_ok h Z ω) (hp : ∀ n p, gr_w h Z n p → p < 24) {s p : Nat} (hr : ρ s p) (hs : s < 64) (hp2 : p < 24) : (if υ 13 s < 2147483648 then υ 13 s else 4294967293) = if ω 3 p < 1000 then ω 3 p else 4294967293 := by
  by_cases c : υ 13 s < 2147483648
  · have hw := (K.1.2.2.1 s hs c).1
    obtain ⟨d1, d2⟩ := jn_dist B K M hp hr hw
    rw [if_pos c, if_pos d2, d1]
  · have d1 := jn_un B K M hr hp2 hs c
    rw [if_neg c, if_neg (by omega)]
theorem sim_dist {σ τ : hs_S} (S : SIM σ τ) (a b : Nat) : ck_dist σ a b ∧ mk_dist τ a b ∧ cr_dist σ a b = mr_dist τ a b ∧ SIM (cf_dist σ a b) (mf_dist τ a b) := by
  have S0 := S
  obtain ⟨hV, hi, ρ, B⟩ := S
  unfold ck_dist mk_dist cr_dist mr_dist cf_dist mf_dist
  rcases sim_emp hV hi B a with ⟨h1, h2, hr, s, p, a1, a2, a3, a4, a5, a6⟩ | ⟨h1, h2, h3⟩
  · have hn : ¬ mr_held τ a = 0 := by omega
    rcases sim_emp hV hi B b with ⟨k1, k2, kr, s', p', b1, b2, b3, b4, b5, b6⟩ | ⟨k1, k2, k3⟩
    · have kn : ¬ mr_held τ b = 0 := by omega
      obtain ⟨w1, w2, w3, w4, K, M⟩ := SIM_one S0 hr
      have c1 : cf_from σ a 1 = σ 1 := w2 1 (by decide) (by decide) (by decide)
      have m0 : mf_spread τ a 0 = τ 0 := w4 0 (by decide)
      have h32 := K.1.2.2.2 s' b3
      have hm := ms_1000 M.1 b4
      rw [if_pos h1, if_pos k1, if_neg hn, if_neg kn, if_pos h1, if_pos k1, if_neg hn, if_neg kn]
      refine ⟨fun _ _ => ⟨w1, by rw [c1]; omega, by rw [c1]; omega, by rw [c1, b1]; exact h32⟩, ⟨hi.1, fun _ _ => ⟨w3, by rw [m0]; omega, by rw [m0, b2]; exact hm⟩⟩, ?_, SIM_walk S0 w2 w4⟩
      unfold cf_dv mf_dv
      rw [c1, m0, b1, b2]
      exact jn_dv B K M (fun n p h => mo_w24 hi h) b5 b3 b4
    · have kn : ¬ cf_emp σ b = 0 := by omega
      rw [if_pos h1, if_neg kn, if_neg hn, if_pos k2, if_pos h1, if_neg kn, if_neg hn, if_pos k2]
      exact ⟨fun _ q => absurd q kn, ⟨hi.1, fun _ q => absurd k2 q⟩, rfl, S0⟩
  · have hn : ¬ cf_emp σ a = 0 := by omega
    rw [if_neg hn, if_pos h2, if_neg hn, if_pos h2]
    exact ⟨fun q => absurd q hn, ⟨hi.1, fun q => absurd h2 q⟩, rfl, S0⟩
end
section
set_option maxRecDepth 100000
theorem ai_i (cA : ClassId) (n : Nat) : vp_cell cA (n, .inl (fun _ => nI 0)) = arrV cA n (fun _ => defaultValue .int) := by
  rw [nI_0]
  rfl
theorem ai_z (cA : ClassId) (n : Nat) : vp_cell cA (n, .inl (fun _ => nI 0)) = arrV cA n (fun _ => defaultValue .boolean) := by
  rw [nI_0]
  rfl
theorem lN_0 : lN 0 = 0 := by decide +kernel
theorem ai_l (cA : ClassId) (n : Nat) : vp_cell cA (n, .inr (.inl (fun _ => lN 0))) = arrV cA n (fun _ => defaultValue .long) := by
  rw [lN_0]
  rfl
/-- the pictures at the start -/
def ci_s (st : Nat) : hs_S := fun k _ => if k = 0 then st else if k = 5 then 1 else 0
def ci_z : hs_S := fun _ _ => 0
def cf_mi (r : Nat) (τ : hs_S) : hs_S := hs_st τ 0 r 4294967295
def ci_m : hs_S := it_f cf_mi 8 0 ci_z
theorem ci_cl {x : Int32} (h1 : 1 ≤ x) (h2 : x ≤ nI 8) : ∃ st, 1 ≤ st ∧ st ≤ 8 ∧ x = nI st := by
  obtain ⟨n, hn, rfl⟩ := wb_of32 x
  have e1 : (1 : Int32) = nI 1 := by decide +kernel
  rw [e1] at h1
  have hn31 : n < 2147483648 := by
    apply Classical.byContradiction
    intro q
    have h3 := (hx_neg (a := n) hn).mpr (by omega)
    have a := Int32.le_iff_toInt_le.mp h1
    have b := Int32.lt_iff_toInt_lt.mp h3
    have c : (nI 1).toInt = 1 := by decide +kernel
    rw [Int32.toInt_zero] at b
    omega
  exact ⟨n, (nI_leI (by decide) hn31).mp h1, (nI_leI hn31 (by decide)).mp h2, rfl⟩
abbrev fsX1 : List Value := [.int (nI 0), .null, .null, .null, .null, .int (nI 0), .null, .int (nI 0), .int (nI 0), .null, .null, .int (nI 0), .null, .null, .null, .int (nI 0), .null, .null]
theorem fsX1_ok : ∀ j, j < 18 → defaultValue (tyX1 j) = vp_V fsX1 j := by
  intro j hj
  unfold fsX1
  try rw [nI_0]
  rcases (show j = 0 ∨ j = 1 ∨ j = 2 ∨ j = 3 ∨ j = 4 ∨ j = 5 ∨ j = 6 ∨ j = 7 ∨ j = 8 ∨ j = 9 ∨ j = 10 ∨ j = 11 ∨ j = 12 ∨ j = 13 ∨ j = 14 ∨ j = 15 ∨ j = 16 ∨ j = 17 by omega) with rfl | rfl | rfl | rfl | rfl | rfl | rfl | rfl | rfl | rfl | rfl | rfl | rfl | rfl | rfl | rfl | rfl | rfl <;> rfl
abbrev fsX2 : List Value := [.null, .null, .null, .null]
theorem fsX2_ok : ∀ j, j < 4 → defaultValue (tyX2 j) = vp_V fsX2 j := by
  intro j hj
  unfold fsX2
  try rw [nI_0]
  rcases (show j = 0 ∨ j = 1 ∨ j = 2 ∨ j = 3 by omega) with rfl | rfl | rfl | rfl <;> rfl
abbrev mX1_init : hx_M := (cX1_init, 3, none, RX1, { frames := 1, cells := 12, slots := 856, locals := 20 })
set_option maxHeartbeats 8000000 in
theorem ci_X1 (l : Launch) (D : va_G) (h0 : Nat) (x : Int32) (sz : Nat) : Met l yX1_init (ws_ yX1_init cX1_init 3 none) { frames := 1, cells := 12, slots := 856, locals := 20 } (va_Pc [.ref h0, .int x] (fun U => U.heap.size = sz ∧ va_P D vwCl [(h0, .inr (0, fsX1))] U.heap ∧ va_K D vwCl [] U ∧ va_D (fun _ => True) [(h0, .inr (0, fsX1))])) (va_Qv (fun u : hx_G × hs_S => u.1.1 = D ∧ hg_h u.1 = h0 ∧ ∃ st, 1 ≤ st ∧ st ≤ 8 ∧ u.2 = ci_s st) (fun u t => hx_B (V1 u.1) (va_A [(h0, .inr (0, fsX1))] sz) u.2 t) (va_A [(h0, .inr (0, fsX1))] sz)) 12 856 (va_A [(h0, .inr (0, fsX1))] sz) := by
  refine Met.ofW (cc := cX1_init) (maxL := 3) (ret := none) (by decide) rfl ?_
  intro p e s m args below meth c s₁ B hml hv
  obtain ⟨rfl, hsz, hP, hK, hD0⟩ := hv
  have hx := B.exec
  have hb := B.bytes
  have hr := B.returns
  have hts := atoms_spec (ws := ws_ yX1_init cX1_init 3 none) B.pre
  have hts : ∀ w ∈ lw_all, w.before _ s = true := fun w h => hts w (List.mem_cons_of_mem _ h)
  have hown : s.vm.findClass RX1 = some m.cls := findClass_of_methodNamed B.named
  have hlocks := B.notSynchronized
  have hin : meth.name = "<init>" := (name_of_methodNamed B.named B.method).1
  subst hsz
  have hD := hD0.self (sz := s.heap.size)
  generalize hAe : va_A [(h0, .inr (0, fsX1))] s.heap.size = A at hD ⊢
  have hA : ∀ q : Nat, s.heap.size ≤ q → A q := fun q h => by rw [← hAe]; exact Or.inr h
  have hS : va_S A s.heap s.heap [] := va_S.rf
  have hP : va_P D vwCl [(h0, .inr (0, fsX1))] s.heap := hP
  have hl := lv_entry ([.ref h0, .int x]) (n := 3) (Nat.le_of_ble_eq_true rfl)
  rw [lg_entry_eq]
  generalize (lg_sl ([.ref h0, .int x]) ++ List.replicate (3 - (lg_sl ([.ref h0, .int x])).length) Slot.unset).toArray = ls at hl ⊢
  have hl : lv_has ls 3 [(0, .ref h0), (1, .int x)] := hl
  refine lv_aload_n hx hb dX1_init_0 rfl (lv_at hl 0 rfl) ?_
  refine W.objInit hx hb hown (hts _ q33) (hts _ q34) (hts _ q35) rfl (by rw [hml]; exact hl.1) rfl dX1_init_1 (Nat.le_of_ble_eq_true rfl) (Nat.le_of_ble_eq_true rfl) ?_
  refine W.eq (g2 := F0 m 4 ls []) rfl ?_
  refine lv_aload_n hx hb dX1_init_4 rfl (lv_at hl 0 rfl) ?_
  refine lv_bipush hx hb dX1_init_5 kc_b8 ?_
  refine va_newa (atype := .int) (ty := .int) (N' := 8) (a0 := (8, .inl (fun _ => nI 0))) hx hb (hts _ q91) rfl hK hP hD hS hA (fun cA => ai_i cA 8) (by decide +kernel) (by decide +kernel) (by decide) (Nat.le_of_ble_eq_true rfl) (Nat.le_of_ble_eq_true rfl) dX1_init_7 (fun q1 c1 H hK hP hD hS => ?_)
  have hK : va_K D vwCl [(c1, .int)] s := hK
  have hP : va_P D vwCl [(h0, .inr (0, [.int (nI 0), .null, .null, .null, .null, .int (nI 0), .null, .int (nI 0), .int (nI 0), .null, .null, .int (nI 0), .null, .null, .null, .int (nI 0), .null, .null])), (q1, .inl (c1, 8, .inl (fun _ => nI 0)))] H := hP
  have hD : va_D A [(h0, .inr (0, [.int (nI 0), .null, .null, .null, .null, .int (nI 0), .null, .int (nI 0), .int (nI 0), .null, .null, .int (nI 0), .null, .null, .null, .int (nI 0), .null, .null])), (q1, .inl (c1, 8, .inl (fun _ => nI 0)))] := hD
  refine va_putF (D := D) (ci := 0) (v := .ref q1) (ty := .array .int) (C := RX1) (T := TX1) (N := 18) (ref := RX1) hx hb hts in_X1 tyX1 tyX1_ok nmX1 hown hK hP hD hS 0 rfl rfl 1 (by decide) (hts _ q37) (fun _ h9 => h9) rfl hin rfl (tyX1_ok 1 (by decide)) rfl rfl (Nat.le_of_ble_eq_true rfl) dX1_init_9 (fun H locs hP hD hS => ?_)
  have hP : va_P D vwCl [(h0, .inr (0, [.int (nI 0), .ref q1, .null, .null, .null, .int (nI 0), .null, .int (nI 0), .int (nI 0), .null, .null, .int (nI 0), .null, .null, .null, .int (nI 0), .null, .null])), (q1, .inl (c1, 8, .inl (fun _ => nI 0)))] H := hP
  have hD : va_D A [(h0, .inr (0, [.int (nI 0), .ref q1, .null, .null, .null, .int (nI 0), .null, .int (nI 0), .int (nI 0), .null, .null, .int (nI 0), .null, .null, .null, .int (nI 0), .null, .null])), (q1, .inl (c1, 8, .inl (fun _ => nI 0)))] := hD
  refine lv_aload_n hx hb dX1_init_12 rfl (lv_at hl 0 rfl) ?_
  refine lv_bipush hx hb dX1_init_13 kc_b64 ?_
  refine va_newa (atype := .boolean) (ty := .boolean) (N' := 64) (a0 := (64, .inl (fun _ => nI 0))) hx hb (hts _ q92) rfl hK hP hD hS hA (fun cA => ai_z cA 64) (by decide +kernel) (by decide +kernel) (by decide) (Nat.le_of_ble_eq_true rfl) (Nat.le_of_ble_eq_true rfl) dX1_init_15 (fun q2 c2 H hK hP hD hS => ?_)
  have hK : va_K D vwCl [(c1, .int), (c2, .boolean)] s := hK
  have hP : va_P D vwCl [(h0, .inr (0, [.int (nI 0), .ref q1, .null, .null, .null, .int (nI 0), .null, .int (nI 0), .int (nI 0), .null, .null, .int (nI 0), .null, .null, .null, .int (nI 0), .null, .null])), (q1, .inl (c1, 8, .inl (fun _ => nI 0))), (q2, .inl (c2, 64, .inl (fun _ => nI 0)))] H := hP
  have hD : va_D A [(h0, .inr (0, [.int (nI 0), .ref q1, .null, .null, .null, .int (nI 0), .null, .int (nI 0), .int (nI 0), .null, .null, .int (nI 0), .null, .null, .null, .int (nI 0), .null, .null])), (q1, .inl (c1, 8, .inl (fun _ => nI 0))), (q2, .inl (c2, 64, .inl (fun _ => nI 0)))] := hD
  refine va_putF (D := D) (ci := 0) (v := .ref q2) (ty := .array .boolean) (C := RX1) (T := TX1) (N := 18) (ref := RX1) hx hb hts in_X1 tyX1 tyX1_ok nmX1 hown hK hP hD hS 0 rfl rfl 2 (by decide) (hts _ q38) (fun _ h9 => h9) rfl hin rfl (tyX1_ok 2 (by decide)) rfl rfl (Nat.le_of_ble_eq_true rfl) dX1_init_17 (fun H locs hP hD hS => ?_)
  have hP : va_P D vwCl [(h0, .inr (0, [.int (nI 0), .ref q1, .ref q2, .null, .null, .int (nI 0), .null, .int (nI 0), .int (nI 0), .null, .null, .int (nI 0), .null, .null, .null, .int (nI 0), .null, .null])), (q1, .inl (c1, 8, .inl (fun _ => nI 0))), (q2, .inl (c2, 64, .inl (fun _ => nI 0)))] H := hP
  have hD : va_D A [(h0, .inr (0, [.int (nI 0), .ref q1, .ref q2, .null, .null, .int (nI 0), .null, .int (nI 0), .int (nI 0), .null, .null, .int (nI 0), .null, .null, .null, .int (nI 0), .null, .null])), (q1, .inl (c1, 8, .inl (fun _ => nI 0))), (q2, .inl (c2, 64, .inl (fun _ => nI 0)))] := hD
  refine lv_aload_n hx hb dX1_init_20 rfl (lv_at hl 0 rfl) ?_
  refine lv_bipush hx hb dX1_init_21 kc_b64 ?_
  refine va_newa (atype := .int) (ty := .int) (N' := 64) (a0 := (64, .inl (fun _ => nI 0))) hx hb (hts _ q91) rfl hK hP hD hS hA (fun cA => ai_i cA 64) (by decide +kernel) (by decide +kernel) (by decide) (Nat.le_of_ble_eq_true rfl) (Nat.le_of_ble_eq_true rfl) dX1_init_23 (fun q3 c3 H hK hP hD hS => ?_)
  have hK : va_K D vwCl [(c1, .int), (c2, .boolean), (c3, .int)] s := hK
  have hP : va_P D vwCl [(h0, .inr (0, [.int (nI 0), .ref q1, .ref q2, .null, .null, .int (nI 0), .null, .int (nI 0), .int (nI 0), .null, .null, .int (nI 0), .null, .null, .null, .int (nI 0), .null, .null])), (q1, .inl (c1, 8, .inl (fun _ => nI 0))), (q2, .inl (c2, 64, .inl (fun _ => nI 0))), (q3, .inl (c3, 64, .inl (fun _ => nI 0)))] H := hP
  have hD : va_D A [(h0, .inr (0, [.int (nI 0), .ref q1, .ref q2, .null, .null, .int (nI 0), .null, .int (nI 0), .int (nI 0), .null, .null, .int (nI 0), .null, .null, .null, .int (nI 0), .null, .null])), (q1, .inl (c1, 8, .inl (fun _ => nI 0))), (q2, .inl (c2, 64, .inl (fun _ => nI 0))), (q3, .inl (c3, 64, .inl (fun _ => nI 0)))] := hD
  refine va_putF (D := D) (ci := 0) (v := .ref q3) (ty := .array .int) (C := RX1) (T := TX1) (N := 18) (ref := RX1) hx hb hts in_X1 tyX1 tyX1_ok nmX1 hown hK hP hD hS 0 rfl rfl 3 (by decide) (hts _ q39) (fun _ h9 => h9) rfl hin rfl (tyX1_ok 3 (by decide)) rfl rfl (Nat.le_of_ble_eq_true rfl) dX1_init_25 (fun H locs hP hD hS => ?_)
  have hP : va_P D vwCl [(h0, .inr (0, [.int (nI 0), .ref q1, .ref q2, .ref q3, .null, .int (nI 0), .null, .int (nI 0), .int (nI 0), .null, .null, .int (nI 0), .null, .null, .null, .int (nI 0), .null, .null])), (q1, .inl (c1, 8, .inl (fun _ => nI 0))), (q2, .inl (c2, 64, .inl (fun _ => nI 0))), (q3, .inl (c3, 64, .inl (fun _ => nI 0)))] H := hP
  have hD : va_D A [(h0, .inr (0, [.int (nI 0), .ref q1, .ref q2, .ref q3, .null, .int (nI 0), .null, .int (nI 0), .int (nI 0), .null, .null, .int (nI 0), .null, .null, .null, .int (nI 0), .null, .null])), (q1, .inl (c1, 8, .inl (fun _ => nI 0))), (q2, .inl (c2, 64, .inl (fun _ => nI 0))), (q3, .inl (c3, 64, .inl (fun _ => nI 0)))] := hD
  refine lv_aload_n hx hb dX1_init_28 rfl (lv_at hl 0 rfl) ?_
  refine lv_sipush hx hb dX1_init_29 kc_s192 ?_
  refine va_newa (atype := .int) (ty := .int) (N' := 192) (a0 := (192, .inl (fun _ => nI 0))) hx hb (hts _ q91) rfl hK hP hD hS hA (fun cA => ai_i cA 192) (by decide +kernel) (by decide +kernel) (by decide) (Nat.le_of_ble_eq_true rfl) (Nat.le_of_ble_eq_true rfl) dX1_init_32 (fun q4 c4 H hK hP hD hS => ?_)
  have hK : va_K D vwCl [(c1, .int), (c2, .boolean), (c3, .int), (c4, .int)] s := hK
  have hP : va_P D vwCl [(h0, .inr (0, [.int (nI 0), .ref q1, .ref q2, .ref q3, .null, .int (nI 0), .null, .int (nI 0), .int (nI 0), .null, .null, .int (nI 0), .null, .null, .null, .int (nI 0), .null, .null])), (q1, .inl (c1, 8, .inl (fun _ => nI 0))), (q2, .inl (c2, 64, .inl (fun _ => nI 0))), (q3, .inl (c3, 64, .inl (fun _ => nI 0))), (q4, .inl (c4, 192, .inl (fun _ => nI 0)))] H := hP
  have hD : va_D A [(h0, .inr (0, [.int (nI 0), .ref q1, .ref q2, .ref q3, .null, .int (nI 0), .null, .int (nI 0), .int (nI 0), .null, .null, .int (nI 0), .null, .null, .null, .int (nI 0), .null, .null])), (q1, .inl (c1, 8, .inl (fun _ => nI 0))), (q2, .inl (c2, 64, .inl (fun _ => nI 0))), (q3, .inl (c3, 64, .inl (fun _ => nI 0))), (q4, .inl (c4, 192, .inl (fun _ => nI 0)))] := hD
  refine va_putF (D := D) (ci := 0) (v := .ref q4) (ty := .array .int) (C := RX1) (T := TX1) (N := 18) (ref := RX1) hx hb hts in_X1 tyX1 tyX1_ok nmX1 hown hK hP hD hS 0 rfl rfl 4 (by decide) (hts _ q40) (fun _ h9 => h9) rfl hin rfl (tyX1_ok 4 (by decide)) rfl rfl (Nat.le_of_ble_eq_true rfl) dX1_init_34 (fun H locs hP hD hS => ?_)
  have hP : va_P D vwCl [(h0, .inr (0, [.int (nI 0), .ref q1, .ref q2, .ref q3, .ref q4, .int (nI 0), .null, .int (nI 0), .int (nI 0), .null, .null, .int (nI 0), .null, .null, .null, .int (nI 0), .null, .null])), (q1, .inl (c1, 8, .inl (fun _ => nI 0))), (q2, .inl (c2, 64, .inl (fun _ => nI 0))), (q3, .inl (c3, 64, .inl (fun _ => nI 0))), (q4, .inl (c4, 192, .inl (fun _ => nI 0)))] H := hP
  have hD : va_D A [(h0, .inr (0, [.int (nI 0), .ref q1, .ref q2, .ref q3, .ref q4, .int (nI 0), .null, .int (nI 0), .int (nI 0), .null, .null, .int (nI 0), .null, .null, .null, .int (nI 0), .null, .null])), (q1, .inl (c1, 8, .inl (fun _ => nI 0))), (q2, .inl (c2, 64, .inl (fun _ => nI 0))), (q3, .inl (c3, 64, .inl (fun _ => nI 0))), (q4, .inl (c4, 192, .inl (fun _ => nI 0)))] := hD
  refine lv_aload_n hx hb dX1_init_37 rfl (lv_at hl 0 rfl) ?_
  refine lv_bipush hx hb dX1_init_38 kc_b8 ?_
  refine va_newa (atype := .int) (ty := .int) (N' := 8) (a0 := (8, .inl (fun _ => nI 0))) hx hb (hts _ q91) rfl hK hP hD hS hA (fun cA => ai_i cA 8) (by decide +kernel) (by decide +kernel) (by decide) (Nat.le_of_ble_eq_true rfl) (Nat.le_of_ble_eq_true rfl) dX1_init_40 (fun q6 c6 H hK hP hD hS => ?_)
  have hK : va_K D vwCl [(c1, .int), (c2, .boolean), (c3, .int), (c4, .int), (c6, .int)] s := hK
  have hP : va_P D vwCl [(h0, .inr (0, [.int (nI 0), .ref q1, .ref q2, .ref q3, .ref q4, .int (nI 0), .null, .int (nI 0), .int (nI 0), .null, .null, .int (nI 0), .null, .null, .null, .int (nI 0), .null, .null])), (q1, .inl (c1, 8, .inl (fun _ => nI 0))), (q2, .inl (c2, 64, .inl (fun _ => nI 0))), (q3, .inl (c3, 64, .inl (fun _ => nI 0))), (q4, .inl (c4, 192, .inl (fun _ => nI 0))), (q6, .inl (c6, 8, .inl (fun _ => nI 0)))] H := hP
  have hD : va_D A [(h0, .inr (0, [.int (nI 0), .ref q1, .ref q2, .ref q3, .ref q4, .int (nI 0), .null, .int (nI 0), .int (nI 0), .null, .null, .int (nI 0), .null, .null, .null, .int (nI 0), .null, .null])), (q1, .inl (c1, 8, .inl (fun _ => nI 0))), (q2, .inl (c2, 64, .inl (fun _ => nI 0))), (q3, .inl (c3, 64, .inl (fun _ => nI 0))), (q4, .inl (c4, 192, .inl (fun _ => nI 0))), (q6, .inl (c6, 8, .inl (fun _ => nI 0)))] := hD
  refine va_putF (D := D) (ci := 0) (v := .ref q6) (ty := .array .int) (C := RX1) (T := TX1) (N := 18) (ref := RX1) hx hb hts in_X1 tyX1 tyX1_ok nmX1 hown hK hP hD hS 0 rfl rfl 6 (by decide) (hts _ q42) (fun _ h9 => h9) rfl hin rfl (tyX1_ok 6 (by decide)) rfl rfl (Nat.le_of_ble_eq_true rfl) dX1_init_42 (fun H locs hP hD hS => ?_)
  have hP : va_P D vwCl [(h0, .inr (0, [.int (nI 0), .ref q1, .ref q2, .ref q3, .ref q4, .int (nI 0), .ref q6, .int (nI 0), .int (nI 0), .null, .null, .int (nI 0), .null, .null, .null, .int (nI 0), .null, .null])), (q1, .inl (c1, 8, .inl (fun _ => nI 0))), (q2, .inl (c2, 64, .inl (fun _ => nI 0))), (q3, .inl (c3, 64, .inl (fun _ => nI 0))), (q4, .inl (c4, 192, .inl (fun _ => nI 0))), (q6, .inl (c6, 8, .inl (fun _ => nI 0)))] H := hP
  have hD : va_D A [(h0, .inr (0, [.int (nI 0), .ref q1, .ref q2, .ref q3, .ref q4, .int (nI 0), .ref q6, .int (nI 0), .int (nI 0), .null, .null, .int (nI 0), .null, .null, .null, .int (nI 0), .null, .null])), (q1, .inl (c1, 8, .inl (fun _ => nI 0))), (q2, .inl (c2, 64, .inl (fun _ => nI 0))), (q3, .inl (c3, 64, .inl (fun _ => nI 0))), (q4, .inl (c4, 192, .inl (fun _ => nI 0))), (q6, .inl (c6, 8, .inl (fun _ => nI 0)))] := hD
  refine lv_aload_n hx hb dX1_init_45 rfl (lv_at hl 0 rfl) ?_
  refine lv_bipush hx hb dX1_init_46 kc_b8 ?_
  refine va_newa (atype := .long) (ty := .long) (N' := 8) (a0 := (8, .inr (.inl (fun _ => lN 0)))) hx hb (hts _ q93) rfl hK hP hD hS hA (fun cA => ai_l cA 8) (by decide +kernel) (by decide +kernel) (by decide) (Nat.le_of_ble_eq_true rfl) (Nat.le_of_ble_eq_true rfl) dX1_init_48 (fun q9 c9 H hK hP hD hS => ?_)
  have hK : va_K D vwCl [(c1, .int), (c2, .boolean), (c3, .int), (c4, .int), (c6, .int), (c9, .long)] s := hK
  have hP : va_P D vwCl [(h0, .inr (0, [.int (nI 0), .ref q1, .ref q2, .ref q3, .ref q4, .int (nI 0), .ref q6, .int (nI 0), .int (nI 0), .null, .null, .int (nI 0), .null, .null, .null, .int (nI 0), .null, .null])), (q1, .inl (c1, 8, .inl (fun _ => nI 0))), (q2, .inl (c2, 64, .inl (fun _ => nI 0))), (q3, .inl (c3, 64, .inl (fun _ => nI 0))), (q4, .inl (c4, 192, .inl (fun _ => nI 0))), (q6, .inl (c6, 8, .inl (fun _ => nI 0))), (q9, .inl (c9, 8, .inr (.inl (fun _ => lN 0))))] H := hP
  have hD : va_D A [(h0, .inr (0, [.int (nI 0), .ref q1, .ref q2, .ref q3, .ref q4, .int (nI 0), .ref q6, .int (nI 0), .int (nI 0), .null, .null, .int (nI 0), .null, .null, .null, .int (nI 0), .null, .null])), (q1, .inl (c1, 8, .inl (fun _ => nI 0))), (q2, .inl (c2, 64, .inl (fun _ => nI 0))), (q3, .inl (c3, 64, .inl (fun _ => nI 0))), (q4, .inl (c4, 192, .inl (fun _ => nI 0))), (q6, .inl (c6, 8, .inl (fun _ => nI 0))), (q9, .inl (c9, 8, .inr (.inl (fun _ => lN 0))))] := hD
  refine va_putF (D := D) (ci := 0) (v := .ref q9) (ty := .array .long) (C := RX1) (T := TX1) (N := 18) (ref := RX1) hx hb hts in_X1 tyX1 tyX1_ok nmX1 hown hK hP hD hS 0 rfl rfl 9 (by decide) (hts _ q45) (fun _ h9 => h9) rfl hin rfl (tyX1_ok 9 (by decide)) rfl rfl (Nat.le_of_ble_eq_true rfl) dX1_init_50 (fun H locs hP hD hS => ?_)
  have hP : va_P D vwCl [(h0, .inr (0, [.int (nI 0), .ref q1, .ref q2, .ref q3, .ref q4, .int (nI 0), .ref q6, .int (nI 0), .int (nI 0), .ref q9, .null, .int (nI 0), .null, .null, .null, .int (nI 0), .null, .null])), (q1, .inl (c1, 8, .inl (fun _ => nI 0))), (q2, .inl (c2, 64, .inl (fun _ => nI 0))), (q3, .inl (c3, 64, .inl (fun _ => nI 0))), (q4, .inl (c4, 192, .inl (fun _ => nI 0))), (q6, .inl (c6, 8, .inl (fun _ => nI 0))), (q9, .inl (c9, 8, .inr (.inl (fun _ => lN 0))))] H := hP
  have hD : va_D A [(h0, .inr (0, [.int (nI 0), .ref q1, .ref q2, .ref q3, .ref q4, .int (nI 0), .ref q6, .int (nI 0), .int (nI 0), .ref q9, .null, .int (nI 0), .null, .null, .null, .int (nI 0), .null, .null])), (q1, .inl (c1, 8, .inl (fun _ => nI 0))), (q2, .inl (c2, 64, .inl (fun _ => nI 0))), (q3, .inl (c3, 64, .inl (fun _ => nI 0))), (q4, .inl (c4, 192, .inl (fun _ => nI 0))), (q6, .inl (c6, 8, .inl (fun _ => nI 0))), (q9, .inl (c9, 8, .inr (.inl (fun _ => lN 0))))] := hD
  refine lv_aload_n hx hb dX1_init_53 rfl (lv_at hl 0 rfl) ?_
  refine lv_bipush hx hb dX1_init_54 kc_b64 ?_
  refine va_newa (atype := .int) (ty := .int) (N' := 64) (a0 := (64, .inl (fun _ => nI 0))) hx hb (hts _ q91) rfl hK hP hD hS hA (fun cA => ai_i cA 64) (by decide +kernel) (by decide +kernel) (by decide) (Nat.le_of_ble_eq_true rfl) (Nat.le_of_ble_eq_true rfl) dX1_init_56 (fun q10 c10 H hK hP hD hS => ?_)
  have hK : va_K D vwCl [(c1, .int), (c2, .boolean), (c3, .int), (c4, .int), (c6, .int), (c9, .long), (c10, .int)] s := hK
  have hP : va_P D vwCl [(h0, .inr (0, [.int (nI 0), .ref q1, .ref q2, .ref q3, .ref q4, .int (nI 0), .ref q6, .int (nI 0), .int (nI 0), .ref q9, .null, .int (nI 0), .null, .null, .null, .int (nI 0), .null, .null])), (q1, .inl (c1, 8, .inl (fun _ => nI 0))), (q2, .inl (c2, 64, .inl (fun _ => nI 0))), (q3, .inl (c3, 64, .inl (fun _ => nI 0))), (q4, .inl (c4, 192, .inl (fun _ => nI 0))), (q6, .inl (c6, 8, .inl (fun _ => nI 0))), (q9, .inl (c9, 8, .inr (.inl (fun _ => lN 0)))), (q10, .inl (c10, 64, .inl (fun _ => nI 0)))] H := hP
  have hD : va_D A [(h0, .inr (0, [.int (nI 0), .ref q1, .ref q2, .ref q3, .ref q4, .int (nI 0), .ref q6, .int (nI 0), .int (nI 0), .ref q9, .null, .int (nI 0), .null, .null, .null, .int (nI 0), .null, .null])), (q1, .inl (c1, 8, .inl (fun _ => nI 0))), (q2, .inl (c2, 64, .inl (fun _ => nI 0))), (q3, .inl (c3, 64, .inl (fun _ => nI 0))), (q4, .inl (c4, 192, .inl (fun _ => nI 0))), (q6, .inl (c6, 8, .inl (fun _ => nI 0))), (q9, .inl (c9, 8, .inr (.inl (fun _ => lN 0)))), (q10, .inl (c10, 64, .inl (fun _ => nI 0)))] := hD
  refine va_putF (D := D) (ci := 0) (v := .ref q10) (ty := .array .int) (C := RX1) (T := TX1) (N := 18) (ref := RX1) hx hb hts in_X1 tyX1 tyX1_ok nmX1 hown hK hP hD hS 0 rfl rfl 10 (by decide) (hts _ q46) (fun _ h9 => h9) rfl hin rfl (tyX1_ok 10 (by decide)) rfl rfl (Nat.le_of_ble_eq_true rfl) dX1_init_58 (fun H locs hP hD hS => ?_)
  have hP : va_P D vwCl [(h0, .inr (0, [.int (nI 0), .ref q1, .ref q2, .ref q3, .ref q4, .int (nI 0), .ref q6, .int (nI 0), .int (nI 0), .ref q9, .ref q10, .int (nI 0), .null, .null, .null, .int (nI 0), .null, .null])), (q1, .inl (c1, 8, .inl (fun _ => nI 0))), (q2, .inl (c2, 64, .inl (fun _ => nI 0))), (q3, .inl (c3, 64, .inl (fun _ => nI 0))), (q4, .inl (c4, 192, .inl (fun _ => nI 0))), (q6, .inl (c6, 8, .inl (fun _ => nI 0))), (q9, .inl (c9, 8, .inr (.inl (fun _ => lN 0)))), (q10, .inl (c10, 64, .inl (fun _ => nI 0)))] H := hP
  have hD : va_D A [(h0, .inr (0, [.int (nI 0), .ref q1, .ref q2, .ref q3, .ref q4, .int (nI 0), .ref q6, .int (nI 0), .int (nI 0), .ref q9, .ref q10, .int (nI 0), .null, .null, .null, .int (nI 0), .null, .null])), (q1, .inl (c1, 8, .inl (fun _ => nI 0))), (q2, .inl (c2, 64, .inl (fun _ => nI 0))), (q3, .inl (c3, 64, .inl (fun _ => nI 0))), (q4, .inl (c4, 192, .inl (fun _ => nI 0))), (q6, .inl (c6, 8, .inl (fun _ => nI 0))), (q9, .inl (c9, 8, .inr (.inl (fun _ => lN 0)))), (q10, .inl (c10, 64, .inl (fun _ => nI 0)))] := hD
  refine lv_aload_n hx hb dX1_init_61 rfl (lv_at hl 0 rfl) ?_
  refine lv_bipush hx hb dX1_init_62 kc_b64 ?_
  refine va_newa (atype := .int) (ty := .int) (N' := 64) (a0 := (64, .inl (fun _ => nI 0))) hx hb (hts _ q91) rfl hK hP hD hS hA (fun cA => ai_i cA 64) (by decide +kernel) (by decide +kernel) (by decide) (Nat.le_of_ble_eq_true rfl) (Nat.le_of_ble_eq_true rfl) dX1_init_64 (fun q12 c12 H hK hP hD hS => ?_)
  have hK : va_K D vwCl [(c1, .int), (c2, .boolean), (c3, .int), (c4, .int), (c6, .int), (c9, .long), (c10, .int), (c12, .int)] s := hK
  have hP : va_P D vwCl [(h0, .inr (0, [.int (nI 0), .ref q1, .ref q2, .ref q3, .ref q4, .int (nI 0), .ref q6, .int (nI 0), .int (nI 0), .ref q9, .ref q10, .int (nI 0), .null, .null, .null, .int (nI 0), .null, .null])), (q1, .inl (c1, 8, .inl (fun _ => nI 0))), (q2, .inl (c2, 64, .inl (fun _ => nI 0))), (q3, .inl (c3, 64, .inl (fun _ => nI 0))), (q4, .inl (c4, 192, .inl (fun _ => nI 0))), (q6, .inl (c6, 8, .inl (fun _ => nI 0))), (q9, .inl (c9, 8, .inr (.inl (fun _ => lN 0)))), (q10, .inl (c10, 64, .inl (fun _ => nI 0))), (q12, .inl (c12, 64, .inl (fun _ => nI 0)))] H := hP
  have hD : va_D A [(h0, .inr (0, [.int (nI 0), .ref q1, .ref q2, .ref q3, .ref q4, .int (nI 0), .ref q6, .int (nI 0), .int (nI 0), .ref q9, .ref q10, .int (nI 0), .null, .null, .null, .int (nI 0), .null, .null])), (q1, .inl (c1, 8, .inl (fun _ => nI 0))), (q2, .inl (c2, 64, .inl (fun _ => nI 0))), (q3, .inl (c3, 64, .inl (fun _ => nI 0))), (q4, .inl (c4, 192, .inl (fun _ => nI 0))), (q6, .inl (c6, 8, .inl (fun _ => nI 0))), (q9, .inl (c9, 8, .inr (.inl (fun _ => lN 0)))), (q10, .inl (c10, 64, .inl (fun _ => nI 0))), (q12, .inl (c12, 64, .inl (fun _ => nI 0)))] := hD
  refine va_putF (D := D) (ci := 0) (v := .ref q12) (ty := .array .int) (C := RX1) (T := TX1) (N := 18) (ref := RX1) hx hb hts in_X1 tyX1 tyX1_ok nmX1 hown hK hP hD hS 0 rfl rfl 12 (by decide) (hts _ q48) (fun _ h9 => h9) rfl hin rfl (tyX1_ok 12 (by decide)) rfl rfl (Nat.le_of_ble_eq_true rfl) dX1_init_66 (fun H locs hP hD hS => ?_)
  have hP : va_P D vwCl [(h0, .inr (0, [.int (nI 0), .ref q1, .ref q2, .ref q3, .ref q4, .int (nI 0), .ref q6, .int (nI 0), .int (nI 0), .ref q9, .ref q10, .int (nI 0), .ref q12, .null, .null, .int (nI 0), .null, .null])), (q1, .inl (c1, 8, .inl (fun _ => nI 0))), (q2, .inl (c2, 64, .inl (fun _ => nI 0))), (q3, .inl (c3, 64, .inl (fun _ => nI 0))), (q4, .inl (c4, 192, .inl (fun _ => nI 0))), (q6, .inl (c6, 8, .inl (fun _ => nI 0))), (q9, .inl (c9, 8, .inr (.inl (fun _ => lN 0)))), (q10, .inl (c10, 64, .inl (fun _ => nI 0))), (q12, .inl (c12, 64, .inl (fun _ => nI 0)))] H := hP
  have hD : va_D A [(h0, .inr (0, [.int (nI 0), .ref q1, .ref q2, .ref q3, .ref q4, .int (nI 0), .ref q6, .int (nI 0), .int (nI 0), .ref q9, .ref q10, .int (nI 0), .ref q12, .null, .null, .int (nI 0), .null, .null])), (q1, .inl (c1, 8, .inl (fun _ => nI 0))), (q2, .inl (c2, 64, .inl (fun _ => nI 0))), (q3, .inl (c3, 64, .inl (fun _ => nI 0))), (q4, .inl (c4, 192, .inl (fun _ => nI 0))), (q6, .inl (c6, 8, .inl (fun _ => nI 0))), (q9, .inl (c9, 8, .inr (.inl (fun _ => lN 0)))), (q10, .inl (c10, 64, .inl (fun _ => nI 0))), (q12, .inl (c12, 64, .inl (fun _ => nI 0)))] := hD
  refine lv_aload_n hx hb dX1_init_69 rfl (lv_at hl 0 rfl) ?_
  refine lv_bipush hx hb dX1_init_70 kc_b64 ?_
  refine va_newa (atype := .int) (ty := .int) (N' := 64) (a0 := (64, .inl (fun _ => nI 0))) hx hb (hts _ q91) rfl hK hP hD hS hA (fun cA => ai_i cA 64) (by decide +kernel) (by decide +kernel) (by decide) (Nat.le_of_ble_eq_true rfl) (Nat.le_of_ble_eq_true rfl) dX1_init_72 (fun q13 c13 H hK hP hD hS => ?_)
  have hK : va_K D vwCl [(c1, .int), (c2, .boolean), (c3, .int), (c4, .int), (c6, .int), (c9, .long), (c10, .int), (c12, .int), (c13, .int)] s := hK
  have hP : va_P D vwCl [(h0, .inr (0, [.int (nI 0), .ref q1, .ref q2, .ref q3, .ref q4, .int (nI 0), .ref q6, .int (nI 0), .int (nI 0), .ref q9, .ref q10, .int (nI 0), .ref q12, .null, .null, .int (nI 0), .null, .null])), (q1, .inl (c1, 8, .inl (fun _ => nI 0))), (q2, .inl (c2, 64, .inl (fun _ => nI 0))), (q3, .inl (c3, 64, .inl (fun _ => nI 0))), (q4, .inl (c4, 192, .inl (fun _ => nI 0))), (q6, .inl (c6, 8, .inl (fun _ => nI 0))), (q9, .inl (c9, 8, .inr (.inl (fun _ => lN 0)))), (q10, .inl (c10, 64, .inl (fun _ => nI 0))), (q12, .inl (c12, 64, .inl (fun _ => nI 0))), (q13, .inl (c13, 64, .inl (fun _ => nI 0)))] H := hP
  have hD : va_D A [(h0, .inr (0, [.int (nI 0), .ref q1, .ref q2, .ref q3, .ref q4, .int (nI 0), .ref q6, .int (nI 0), .int (nI 0), .ref q9, .ref q10, .int (nI 0), .ref q12, .null, .null, .int (nI 0), .null, .null])), (q1, .inl (c1, 8, .inl (fun _ => nI 0))), (q2, .inl (c2, 64, .inl (fun _ => nI 0))), (q3, .inl (c3, 64, .inl (fun _ => nI 0))), (q4, .inl (c4, 192, .inl (fun _ => nI 0))), (q6, .inl (c6, 8, .inl (fun _ => nI 0))), (q9, .inl (c9, 8, .inr (.inl (fun _ => lN 0)))), (q10, .inl (c10, 64, .inl (fun _ => nI 0))), (q12, .inl (c12, 64, .inl (fun _ => nI 0))), (q13, .inl (c13, 64, .inl (fun _ => nI 0)))] := hD
  refine va_putF (D := D) (ci := 0) (v := .ref q13) (ty := .array .int) (C := RX1) (T := TX1) (N := 18) (ref := RX1) hx hb hts in_X1 tyX1 tyX1_ok nmX1 hown hK hP hD hS 0 rfl rfl 13 (by decide) (hts _ q49) (fun _ h9 => h9) rfl hin rfl (tyX1_ok 13 (by decide)) rfl rfl (Nat.le_of_ble_eq_true rfl) dX1_init_74 (fun H locs hP hD hS => ?_)
  have hP : va_P D vwCl [(h0, .inr (0, [.int (nI 0), .ref q1, .ref q2, .ref q3, .ref q4, .int (nI 0), .ref q6, .int (nI 0), .int (nI 0), .ref q9, .ref q10, .int (nI 0), .ref q12, .ref q13, .null, .int (nI 0), .null, .null])), (q1, .inl (c1, 8, .inl (fun _ => nI 0))), (q2, .inl (c2, 64, .inl (fun _ => nI 0))), (q3, .inl (c3, 64, .inl (fun _ => nI 0))), (q4, .inl (c4, 192, .inl (fun _ => nI 0))), (q6, .inl (c6, 8, .inl (fun _ => nI 0))), (q9, .inl (c9, 8, .inr (.inl (fun _ => lN 0)))), (q10, .inl (c10, 64, .inl (fun _ => nI 0))), (q12, .inl (c12, 64, .inl (fun _ => nI 0))), (q13, .inl (c13, 64, .inl (fun _ => nI 0)))] H := hP
  have hD : va_D A [(h0, .inr (0, [.int (nI 0), .ref q1, .ref q2, .ref q3, .ref q4, .int (nI 0), .ref q6, .int (nI 0), .int (nI 0), .ref q9, .ref q10, .int (nI 0), .ref q12, .ref q13, .null, .int (nI 0), .null, .null])), (q1, .inl (c1, 8, .inl (fun _ => nI 0))), (q2, .inl (c2, 64, .inl (fun _ => nI 0))), (q3, .inl (c3, 64, .inl (fun _ => nI 0))), (q4, .inl (c4, 192, .inl (fun _ => nI 0))), (q6, .inl (c6, 8, .inl (fun _ => nI 0))), (q9, .inl (c9, 8, .inr (.inl (fun _ => lN 0)))), (q10, .inl (c10, 64, .inl (fun _ => nI 0))), (q12, .inl (c12, 64, .inl (fun _ => nI 0))), (q13, .inl (c13, 64, .inl (fun _ => nI 0)))] := hD
  refine lv_aload_n hx hb dX1_init_77 rfl (lv_at hl 0 rfl) ?_
  refine lv_bipush hx hb dX1_init_78 kc_b64 ?_
  refine va_newa (atype := .int) (ty := .int) (N' := 64) (a0 := (64, .inl (fun _ => nI 0))) hx hb (hts _ q91) rfl hK hP hD hS hA (fun cA => ai_i cA 64) (by decide +kernel) (by decide +kernel) (by decide) (Nat.le_of_ble_eq_true rfl) (Nat.le_of_ble_eq_true rfl) dX1_init_80 (fun q14 c14 H hK hP hD hS => ?_)
  have hK : va_K D vwCl [(c1, .int), (c2, .boolean), (c3, .int), (c4, .int), (c6, .int), (c9, .long), (c10, .int), (c12, .int), (c13, .int), (c14, .int)] s := hK
  have hP : va_P D vwCl [(h0, .inr (0, [.int (nI 0), .ref q1, .ref q2, .ref q3, .ref q4, .int (nI 0), .ref q6, .int (nI 0), .int (nI 0), .ref q9, .ref q10, .int (nI 0), .ref q12, .ref q13, .null, .int (nI 0), .null, .null])), (q1, .inl (c1, 8, .inl (fun _ => nI 0))), (q2, .inl (c2, 64, .inl (fun _ => nI 0))), (q3, .inl (c3, 64, .inl (fun _ => nI 0))), (q4, .inl (c4, 192, .inl (fun _ => nI 0))), (q6, .inl (c6, 8, .inl (fun _ => nI 0))), (q9, .inl (c9, 8, .inr (.inl (fun _ => lN 0)))), (q10, .inl (c10, 64, .inl (fun _ => nI 0))), (q12, .inl (c12, 64, .inl (fun _ => nI 0))), (q13, .inl (c13, 64, .inl (fun _ => nI 0))), (q14, .inl (c14, 64, .inl (fun _ => nI 0)))] H := hP
  have hD : va_D A [(h0, .inr (0, [.int (nI 0), .ref q1, .ref q2, .ref q3, .ref q4, .int (nI 0), .ref q6, .int (nI 0), .int (nI 0), .ref q9, .ref q10, .int (nI 0), .ref q12, .ref q13, .null, .int (nI 0), .null, .null])), (q1, .inl (c1, 8, .inl (fun _ => nI 0))), (q2, .inl (c2, 64, .inl (fun _ => nI 0))), (q3, .inl (c3, 64, .inl (fun _ => nI 0))), (q4, .inl (c4, 192, .inl (fun _ => nI 0))), (q6, .inl (c6, 8, .inl (fun _ => nI 0))), (q9, .inl (c9, 8, .inr (.inl (fun _ => lN 0)))), (q10, .inl (c10, 64, .inl (fun _ => nI 0))), (q12, .inl (c12, 64, .inl (fun _ => nI 0))), (q13, .inl (c13, 64, .inl (fun _ => nI 0))), (q14, .inl (c14, 64, .inl (fun _ => nI 0)))] := hD
  refine va_putF (D := D) (ci := 0) (v := .ref q14) (ty := .array .int) (C := RX1) (T := TX1) (N := 18) (ref := RX1) hx hb hts in_X1 tyX1 tyX1_ok nmX1 hown hK hP hD hS 0 rfl rfl 14 (by decide) (hts _ q50) (fun _ h9 => h9) rfl hin rfl (tyX1_ok 14 (by decide)) rfl rfl (Nat.le_of_ble_eq_true rfl) dX1_init_82 (fun H locs hP hD hS => ?_)
  have hP : va_P D vwCl [(h0, .inr (0, [.int (nI 0), .ref q1, .ref q2, .ref q3, .ref q4, .int (nI 0), .ref q6, .int (nI 0), .int (nI 0), .ref q9, .ref q10, .int (nI 0), .ref q12, .ref q13, .ref q14, .int (nI 0), .null, .null])), (q1, .inl (c1, 8, .inl (fun _ => nI 0))), (q2, .inl (c2, 64, .inl (fun _ => nI 0))), (q3, .inl (c3, 64, .inl (fun _ => nI 0))), (q4, .inl (c4, 192, .inl (fun _ => nI 0))), (q6, .inl (c6, 8, .inl (fun _ => nI 0))), (q9, .inl (c9, 8, .inr (.inl (fun _ => lN 0)))), (q10, .inl (c10, 64, .inl (fun _ => nI 0))), (q12, .inl (c12, 64, .inl (fun _ => nI 0))), (q13, .inl (c13, 64, .inl (fun _ => nI 0))), (q14, .inl (c14, 64, .inl (fun _ => nI 0)))] H := hP
  have hD : va_D A [(h0, .inr (0, [.int (nI 0), .ref q1, .ref q2, .ref q3, .ref q4, .int (nI 0), .ref q6, .int (nI 0), .int (nI 0), .ref q9, .ref q10, .int (nI 0), .ref q12, .ref q13, .ref q14, .int (nI 0), .null, .null])), (q1, .inl (c1, 8, .inl (fun _ => nI 0))), (q2, .inl (c2, 64, .inl (fun _ => nI 0))), (q3, .inl (c3, 64, .inl (fun _ => nI 0))), (q4, .inl (c4, 192, .inl (fun _ => nI 0))), (q6, .inl (c6, 8, .inl (fun _ => nI 0))), (q9, .inl (c9, 8, .inr (.inl (fun _ => lN 0)))), (q10, .inl (c10, 64, .inl (fun _ => nI 0))), (q12, .inl (c12, 64, .inl (fun _ => nI 0))), (q13, .inl (c13, 64, .inl (fun _ => nI 0))), (q14, .inl (c14, 64, .inl (fun _ => nI 0)))] := hD
  refine lv_aload_n hx hb dX1_init_85 rfl (lv_at hl 0 rfl) ?_
  refine lv_bipush hx hb dX1_init_86 kc_b64 ?_
  refine va_newa (atype := .int) (ty := .int) (N' := 64) (a0 := (64, .inl (fun _ => nI 0))) hx hb (hts _ q91) rfl hK hP hD hS hA (fun cA => ai_i cA 64) (by decide +kernel) (by decide +kernel) (by decide) (Nat.le_of_ble_eq_true rfl) (Nat.le_of_ble_eq_true rfl) dX1_init_88 (fun q16 c16 H hK hP hD hS => ?_)
  have hK : va_K D vwCl [(c1, .int), (c2, .boolean), (c3, .int), (c4, .int), (c6, .int), (c9, .long), (c10, .int), (c12, .int), (c13, .int), (c14, .int), (c16, .int)] s := hK
  have hP : va_P D vwCl [(h0, .inr (0, [.int (nI 0), .ref q1, .ref q2, .ref q3, .ref q4, .int (nI 0), .ref q6, .int (nI 0), .int (nI 0), .ref q9, .ref q10, .int (nI 0), .ref q12, .ref q13, .ref q14, .int (nI 0), .null, .null])), (q1, .inl (c1, 8, .inl (fun _ => nI 0))), (q2, .inl (c2, 64, .inl (fun _ => nI 0))), (q3, .inl (c3, 64, .inl (fun _ => nI 0))), (q4, .inl (c4, 192, .inl (fun _ => nI 0))), (q6, .inl (c6, 8, .inl (fun _ => nI 0))), (q9, .inl (c9, 8, .inr (.inl (fun _ => lN 0)))), (q10, .inl (c10, 64, .inl (fun _ => nI 0))), (q12, .inl (c12, 64, .inl (fun _ => nI 0))), (q13, .inl (c13, 64, .inl (fun _ => nI 0))), (q14, .inl (c14, 64, .inl (fun _ => nI 0))), (q16, .inl (c16, 64, .inl (fun _ => nI 0)))] H := hP
  have hD : va_D A [(h0, .inr (0, [.int (nI 0), .ref q1, .ref q2, .ref q3, .ref q4, .int (nI 0), .ref q6, .int (nI 0), .int (nI 0), .ref q9, .ref q10, .int (nI 0), .ref q12, .ref q13, .ref q14, .int (nI 0), .null, .null])), (q1, .inl (c1, 8, .inl (fun _ => nI 0))), (q2, .inl (c2, 64, .inl (fun _ => nI 0))), (q3, .inl (c3, 64, .inl (fun _ => nI 0))), (q4, .inl (c4, 192, .inl (fun _ => nI 0))), (q6, .inl (c6, 8, .inl (fun _ => nI 0))), (q9, .inl (c9, 8, .inr (.inl (fun _ => lN 0)))), (q10, .inl (c10, 64, .inl (fun _ => nI 0))), (q12, .inl (c12, 64, .inl (fun _ => nI 0))), (q13, .inl (c13, 64, .inl (fun _ => nI 0))), (q14, .inl (c14, 64, .inl (fun _ => nI 0))), (q16, .inl (c16, 64, .inl (fun _ => nI 0)))] := hD
  refine va_putF (D := D) (ci := 0) (v := .ref q16) (ty := .array .int) (C := RX1) (T := TX1) (N := 18) (ref := RX1) hx hb hts in_X1 tyX1 tyX1_ok nmX1 hown hK hP hD hS 0 rfl rfl 16 (by decide) (hts _ q52) (fun _ h9 => h9) rfl hin rfl (tyX1_ok 16 (by decide)) rfl rfl (Nat.le_of_ble_eq_true rfl) dX1_init_90 (fun H locs hP hD hS => ?_)
  have hP : va_P D vwCl [(h0, .inr (0, [.int (nI 0), .ref q1, .ref q2, .ref q3, .ref q4, .int (nI 0), .ref q6, .int (nI 0), .int (nI 0), .ref q9, .ref q10, .int (nI 0), .ref q12, .ref q13, .ref q14, .int (nI 0), .ref q16, .null])), (q1, .inl (c1, 8, .inl (fun _ => nI 0))), (q2, .inl (c2, 64, .inl (fun _ => nI 0))), (q3, .inl (c3, 64, .inl (fun _ => nI 0))), (q4, .inl (c4, 192, .inl (fun _ => nI 0))), (q6, .inl (c6, 8, .inl (fun _ => nI 0))), (q9, .inl (c9, 8, .inr (.inl (fun _ => lN 0)))), (q10, .inl (c10, 64, .inl (fun _ => nI 0))), (q12, .inl (c12, 64, .inl (fun _ => nI 0))), (q13, .inl (c13, 64, .inl (fun _ => nI 0))), (q14, .inl (c14, 64, .inl (fun _ => nI 0))), (q16, .inl (c16, 64, .inl (fun _ => nI 0)))] H := hP
  have hD : va_D A [(h0, .inr (0, [.int (nI 0), .ref q1, .ref q2, .ref q3, .ref q4, .int (nI 0), .ref q6, .int (nI 0), .int (nI 0), .ref q9, .ref q10, .int (nI 0), .ref q12, .ref q13, .ref q14, .int (nI 0), .ref q16, .null])), (q1, .inl (c1, 8, .inl (fun _ => nI 0))), (q2, .inl (c2, 64, .inl (fun _ => nI 0))), (q3, .inl (c3, 64, .inl (fun _ => nI 0))), (q4, .inl (c4, 192, .inl (fun _ => nI 0))), (q6, .inl (c6, 8, .inl (fun _ => nI 0))), (q9, .inl (c9, 8, .inr (.inl (fun _ => lN 0)))), (q10, .inl (c10, 64, .inl (fun _ => nI 0))), (q12, .inl (c12, 64, .inl (fun _ => nI 0))), (q13, .inl (c13, 64, .inl (fun _ => nI 0))), (q14, .inl (c14, 64, .inl (fun _ => nI 0))), (q16, .inl (c16, 64, .inl (fun _ => nI 0)))] := hD
  refine lv_aload_n hx hb dX1_init_93 rfl (lv_at hl 0 rfl) ?_
  refine lv_sipush hx hb dX1_init_94 kc_s192 ?_
  refine va_newa (atype := .int) (ty := .int) (N' := 192) (a0 := (192, .inl (fun _ => nI 0))) hx hb (hts _ q91) rfl hK hP hD hS hA (fun cA => ai_i cA 192) (by decide +kernel) (by decide +kernel) (by decide) (Nat.le_of_ble_eq_true rfl) (Nat.le_of_ble_eq_true rfl) dX1_init_97 (fun q17 c17 H hK hP hD hS => ?_)
  have hK : va_K D vwCl [(c1, .int), (c2, .boolean), (c3, .int), (c4, .int), (c6, .int), (c9, .long), (c10, .int), (c12, .int), (c13, .int), (c14, .int), (c16, .int), (c17, .int)] s := hK
  have hP : va_P D vwCl [(h0, .inr (0, [.int (nI 0), .ref q1, .ref q2, .ref q3, .ref q4, .int (nI 0), .ref q6, .int (nI 0), .int (nI 0), .ref q9, .ref q10, .int (nI 0), .ref q12, .ref q13, .ref q14, .int (nI 0), .ref q16, .null])), (q1, .inl (c1, 8, .inl (fun _ => nI 0))), (q2, .inl (c2, 64, .inl (fun _ => nI 0))), (q3, .inl (c3, 64, .inl (fun _ => nI 0))), (q4, .inl (c4, 192, .inl (fun _ => nI 0))), (q6, .inl (c6, 8, .inl (fun _ => nI 0))), (q9, .inl (c9, 8, .inr (.inl (fun _ => lN 0)))), (q10, .inl (c10, 64, .inl (fun _ => nI 0))), (q12, .inl (c12, 64, .inl (fun _ => nI 0))), (q13, .inl (c13, 64, .inl (fun _ => nI 0))), (q14, .inl (c14, 64, .inl (fun _ => nI 0))), (q16, .inl (c16, 64, .inl (fun _ => nI 0))), (q17, .inl (c17, 192, .inl (fun _ => nI 0)))] H := hP
  have hD : va_D A [(h0, .inr (0, [.int (nI 0), .ref q1, .ref q2, .ref q3, .ref q4, .int (nI 0), .ref q6, .int (nI 0), .int (nI 0), .ref q9, .ref q10, .int (nI 0), .ref q12, .ref q13, .ref q14, .int (nI 0), .ref q16, .null])), (q1, .inl (c1, 8, .inl (fun _ => nI 0))), (q2, .inl (c2, 64, .inl (fun _ => nI 0))), (q3, .inl (c3, 64, .inl (fun _ => nI 0))), (q4, .inl (c4, 192, .inl (fun _ => nI 0))), (q6, .inl (c6, 8, .inl (fun _ => nI 0))), (q9, .inl (c9, 8, .inr (.inl (fun _ => lN 0)))), (q10, .inl (c10, 64, .inl (fun _ => nI 0))), (q12, .inl (c12, 64, .inl (fun _ => nI 0))), (q13, .inl (c13, 64, .inl (fun _ => nI 0))), (q14, .inl (c14, 64, .inl (fun _ => nI 0))), (q16, .inl (c16, 64, .inl (fun _ => nI 0))), (q17, .inl (c17, 192, .inl (fun _ => nI 0)))] := hD
  refine va_putF (D := D) (ci := 0) (v := .ref q17) (ty := .array .int) (C := RX1) (T := TX1) (N := 18) (ref := RX1) hx hb hts in_X1 tyX1 tyX1_ok nmX1 hown hK hP hD hS 0 rfl rfl 17 (by decide) (hts _ q53) (fun _ h9 => h9) rfl hin rfl (tyX1_ok 17 (by decide)) rfl rfl (Nat.le_of_ble_eq_true rfl) dX1_init_99 (fun H locs hP hD hS => ?_)
  have hP : va_P D vwCl [(h0, .inr (0, [.int (nI 0), .ref q1, .ref q2, .ref q3, .ref q4, .int (nI 0), .ref q6, .int (nI 0), .int (nI 0), .ref q9, .ref q10, .int (nI 0), .ref q12, .ref q13, .ref q14, .int (nI 0), .ref q16, .ref q17])), (q1, .inl (c1, 8, .inl (fun _ => nI 0))), (q2, .inl (c2, 64, .inl (fun _ => nI 0))), (q3, .inl (c3, 64, .inl (fun _ => nI 0))), (q4, .inl (c4, 192, .inl (fun _ => nI 0))), (q6, .inl (c6, 8, .inl (fun _ => nI 0))), (q9, .inl (c9, 8, .inr (.inl (fun _ => lN 0)))), (q10, .inl (c10, 64, .inl (fun _ => nI 0))), (q12, .inl (c12, 64, .inl (fun _ => nI 0))), (q13, .inl (c13, 64, .inl (fun _ => nI 0))), (q14, .inl (c14, 64, .inl (fun _ => nI 0))), (q16, .inl (c16, 64, .inl (fun _ => nI 0))), (q17, .inl (c17, 192, .inl (fun _ => nI 0)))] H := hP
  have hD : va_D A [(h0, .inr (0, [.int (nI 0), .ref q1, .ref q2, .ref q3, .ref q4, .int (nI 0), .ref q6, .int (nI 0), .int (nI 0), .ref q9, .ref q10, .int (nI 0), .ref q12, .ref q13, .ref q14, .int (nI 0), .ref q16, .ref q17])), (q1, .inl (c1, 8, .inl (fun _ => nI 0))), (q2, .inl (c2, 64, .inl (fun _ => nI 0))), (q3, .inl (c3, 64, .inl (fun _ => nI 0))), (q4, .inl (c4, 192, .inl (fun _ => nI 0))), (q6, .inl (c6, 8, .inl (fun _ => nI 0))), (q9, .inl (c9, 8, .inr (.inl (fun _ => lN 0)))), (q10, .inl (c10, 64, .inl (fun _ => nI 0))), (q12, .inl (c12, 64, .inl (fun _ => nI 0))), (q13, .inl (c13, 64, .inl (fun _ => nI 0))), (q14, .inl (c14, 64, .inl (fun _ => nI 0))), (q16, .inl (c16, 64, .inl (fun _ => nI 0))), (q17, .inl (c17, 192, .inl (fun _ => nI 0)))] := hD
  refine W.widen (k := 12) (n := 856) (Nat.le_of_ble_eq_true rfl) (Nat.le_of_ble_eq_true rfl) ?_
  obtain ⟨G, eG⟩ : ∃ G : hx_G, G = (D, h0, (fun k => if k = 1 then q1 else if k = 2 then q2 else if k = 3 then q3 else if k = 4 then q4 else if k = 6 then q6 else if k = 9 then q9 else if k = 10 then q10 else if k = 12 then q12 else if k = 13 then q13 else if k = 14 then q14 else if k = 16 then q16 else q17), (fun k => if k = 1 then c1 else if k = 2 then c2 else if k = 3 then c3 else if k = 4 then c4 else if k = 6 then c6 else if k = 9 then c9 else if k = 10 then c10 else if k = 12 then c12 else if k = 13 then c13 else if k = 14 then c14 else if k = 16 then c16 else c17)) := ⟨_, rfl⟩
  refine lv_iload_n hx hb dX1_init_102 rfl (lv_at hl 1 rfl) ?_
  refine lv_istore_n (lv' := [(2, .int x), (0, .ref h0), (1, .int x)]) hx hb dX1_init_103 rfl hl (by decide) rfl (fun ls hl => ?_)
  refine lv_iload_n hx hb dX1_init_104 rfl (lv_at hl 0 rfl) ?_
  refine lv_iconst (v := 1) hx hb dX1_init_105 (by decide) ?_
  refine lv_icmp_ge (tgt := 111) hx hb dX1_init_106 (by decide) (fun c1_ => ?_) (fun c1_ => ?_)
  · refine lv_iload_n hx hb dX1_init_111 rfl (lv_at hl 0 rfl) ?_
    refine lv_bipush hx hb dX1_init_112 kc_b8 ?_
    refine lv_icmp_le (tgt := 120) hx hb dX1_init_114 (by decide) (fun c2_ => ?_) (fun c2_ => ?_)
    · obtain ⟨st, hs1, hs8, est⟩ := ci_cl c1_ c2_
      rw [est] at hl
      refine lv_aload_n hx hb dX1_init_120 rfl (lv_at hl 1 rfl) ?_
      refine lv_iload_n hx hb dX1_init_121 rfl (lv_at hl 0 rfl) ?_
      refine va_putF (D := D) (ci := 0) (v := .int (nI st)) (ty := .int) (C := RX1) (T := TX1) (N := 18) (ref := RX1) hx hb hts in_X1 tyX1 tyX1_ok nmX1 hown hK hP hD hS 0 rfl rfl 0 (by decide) (hts _ q36) (fun _ h9 => h9) rfl hin rfl (tyX1_ok 0 (by decide)) rfl rfl (Nat.le_of_ble_eq_true rfl) dX1_init_122 (fun H locs hP hD hS => ?_)
      have hP : va_P D vwCl [(h0, .inr (0, [.int (nI st), .ref q1, .ref q2, .ref q3, .ref q4, .int (nI 0), .ref q6, .int (nI 0), .int (nI 0), .ref q9, .ref q10, .int (nI 0), .ref q12, .ref q13, .ref q14, .int (nI 0), .ref q16, .ref q17])), (q1, .inl (c1, 8, .inl (fun _ => nI 0))), (q2, .inl (c2, 64, .inl (fun _ => nI 0))), (q3, .inl (c3, 64, .inl (fun _ => nI 0))), (q4, .inl (c4, 192, .inl (fun _ => nI 0))), (q6, .inl (c6, 8, .inl (fun _ => nI 0))), (q9, .inl (c9, 8, .inr (.inl (fun _ => lN 0)))), (q10, .inl (c10, 64, .inl (fun _ => nI 0))), (q12, .inl (c12, 64, .inl (fun _ => nI 0))), (q13, .inl (c13, 64, .inl (fun _ => nI 0))), (q14, .inl (c14, 64, .inl (fun _ => nI 0))), (q16, .inl (c16, 64, .inl (fun _ => nI 0))), (q17, .inl (c17, 192, .inl (fun _ => nI 0)))] H := hP
      have hD : va_D A [(h0, .inr (0, [.int (nI st), .ref q1, .ref q2, .ref q3, .ref q4, .int (nI 0), .ref q6, .int (nI 0), .int (nI 0), .ref q9, .ref q10, .int (nI 0), .ref q12, .ref q13, .ref q14, .int (nI 0), .ref q16, .ref q17])), (q1, .inl (c1, 8, .inl (fun _ => nI 0))), (q2, .inl (c2, 64, .inl (fun _ => nI 0))), (q3, .inl (c3, 64, .inl (fun _ => nI 0))), (q4, .inl (c4, 192, .inl (fun _ => nI 0))), (q6, .inl (c6, 8, .inl (fun _ => nI 0))), (q9, .inl (c9, 8, .inr (.inl (fun _ => lN 0)))), (q10, .inl (c10, 64, .inl (fun _ => nI 0))), (q12, .inl (c12, 64, .inl (fun _ => nI 0))), (q13, .inl (c13, 64, .inl (fun _ => nI 0))), (q14, .inl (c14, 64, .inl (fun _ => nI 0))), (q16, .inl (c16, 64, .inl (fun _ => nI 0))), (q17, .inl (c17, 192, .inl (fun _ => nI 0)))] := hD
      refine lv_aload_n hx hb dX1_init_125 rfl (lv_at hl 1 rfl) ?_
      refine lv_iconst hx hb dX1_init_126 kc_i1 ?_
      refine va_put (D := D) (ci := 0) (v := .int (nI 1)) (ty := .int) (C := RX1) (T := TX1) (N := 18) (ref := RX1) hx hb hts in_X1 tyX1 tyX1_ok nmX1 hown hK hP hD hS 0 rfl rfl 5 (by decide) (hts _ q41) (fun _ h9 => h9) rfl (tyX1_ok 5 (by decide)) rfl rfl (Nat.le_of_ble_eq_true rfl) dX1_init_127 (fun H locs hP hD hS => ?_)
      have hP : va_P G.1 vwCl (wl1 G (ci_s st)) H := by rw [eG]; exact hP
      have hD : va_D A (wl1 G (ci_s st)) := by rw [eG]; exact hD
      have hK : va_K G.1 vwCl (tys1 G) s := by rw [eG]; exact hK
      exact W.vret hx hb hr (fun t ht hW => ⟨⟨(G, ci_s st), rfl, ⟨by rw [eG], by rw [eG], st, hs1, hs8, rfl⟩, by rw [ht]; exact hP, va_K.moved hW.alike hK, hD⟩, hS.F ht⟩) hS.2.2 dX1_init_130
    · refine lv_bipush hx hb dX1_init_117 kc_b8 ?_
      refine lv_istore_n (lv' := [(2, .int (nI 8)), (0, .ref h0), (1, .int x)]) hx hb dX1_init_119 rfl hl (by decide) rfl (fun ls hl => ?_)
      refine lv_aload_n hx hb dX1_init_120 rfl (lv_at hl 1 rfl) ?_
      refine lv_iload_n hx hb dX1_init_121 rfl (lv_at hl 0 rfl) ?_
      refine va_putF (D := D) (ci := 0) (v := .int (nI 8)) (ty := .int) (C := RX1) (T := TX1) (N := 18) (ref := RX1) hx hb hts in_X1 tyX1 tyX1_ok nmX1 hown hK hP hD hS 0 rfl rfl 0 (by decide) (hts _ q36) (fun _ h9 => h9) rfl hin rfl (tyX1_ok 0 (by decide)) rfl rfl (Nat.le_of_ble_eq_true rfl) dX1_init_122 (fun H locs hP hD hS => ?_)
      have hP : va_P D vwCl [(h0, .inr (0, [.int (nI 8), .ref q1, .ref q2, .ref q3, .ref q4, .int (nI 0), .ref q6, .int (nI 0), .int (nI 0), .ref q9, .ref q10, .int (nI 0), .ref q12, .ref q13, .ref q14, .int (nI 0), .ref q16, .ref q17])), (q1, .inl (c1, 8, .inl (fun _ => nI 0))), (q2, .inl (c2, 64, .inl (fun _ => nI 0))), (q3, .inl (c3, 64, .inl (fun _ => nI 0))), (q4, .inl (c4, 192, .inl (fun _ => nI 0))), (q6, .inl (c6, 8, .inl (fun _ => nI 0))), (q9, .inl (c9, 8, .inr (.inl (fun _ => lN 0)))), (q10, .inl (c10, 64, .inl (fun _ => nI 0))), (q12, .inl (c12, 64, .inl (fun _ => nI 0))), (q13, .inl (c13, 64, .inl (fun _ => nI 0))), (q14, .inl (c14, 64, .inl (fun _ => nI 0))), (q16, .inl (c16, 64, .inl (fun _ => nI 0))), (q17, .inl (c17, 192, .inl (fun _ => nI 0)))] H := hP
      have hD : va_D A [(h0, .inr (0, [.int (nI 8), .ref q1, .ref q2, .ref q3, .ref q4, .int (nI 0), .ref q6, .int (nI 0), .int (nI 0), .ref q9, .ref q10, .int (nI 0), .ref q12, .ref q13, .ref q14, .int (nI 0), .ref q16, .ref q17])), (q1, .inl (c1, 8, .inl (fun _ => nI 0))), (q2, .inl (c2, 64, .inl (fun _ => nI 0))), (q3, .inl (c3, 64, .inl (fun _ => nI 0))), (q4, .inl (c4, 192, .inl (fun _ => nI 0))), (q6, .inl (c6, 8, .inl (fun _ => nI 0))), (q9, .inl (c9, 8, .inr (.inl (fun _ => lN 0)))), (q10, .inl (c10, 64, .inl (fun _ => nI 0))), (q12, .inl (c12, 64, .inl (fun _ => nI 0))), (q13, .inl (c13, 64, .inl (fun _ => nI 0))), (q14, .inl (c14, 64, .inl (fun _ => nI 0))), (q16, .inl (c16, 64, .inl (fun _ => nI 0))), (q17, .inl (c17, 192, .inl (fun _ => nI 0)))] := hD
      refine lv_aload_n hx hb dX1_init_125 rfl (lv_at hl 1 rfl) ?_
      refine lv_iconst hx hb dX1_init_126 kc_i1 ?_
      refine va_put (D := D) (ci := 0) (v := .int (nI 1)) (ty := .int) (C := RX1) (T := TX1) (N := 18) (ref := RX1) hx hb hts in_X1 tyX1 tyX1_ok nmX1 hown hK hP hD hS 0 rfl rfl 5 (by decide) (hts _ q41) (fun _ h9 => h9) rfl (tyX1_ok 5 (by decide)) rfl rfl (Nat.le_of_ble_eq_true rfl) dX1_init_127 (fun H locs hP hD hS => ?_)
      have hP : va_P G.1 vwCl (wl1 G (ci_s 8)) H := by rw [eG]; exact hP
      have hD : va_D A (wl1 G (ci_s 8)) := by rw [eG]; exact hD
      have hK : va_K G.1 vwCl (tys1 G) s := by rw [eG]; exact hK
      exact W.vret hx hb hr (fun t ht hW => ⟨⟨(G, ci_s 8), rfl, ⟨by rw [eG], by rw [eG], 8, by decide, by decide, rfl⟩, by rw [ht]; exact hP, va_K.moved hW.alike hK, hD⟩, hS.F ht⟩) hS.2.2 dX1_init_130
  · refine lv_iconst hx hb dX1_init_109 kc_i1 ?_
    refine lv_istore_n (lv' := [(2, .int (nI 1)), (0, .ref h0), (1, .int x)]) hx hb dX1_init_110 rfl hl (by decide) rfl (fun ls hl => ?_)
    refine lv_iload_n hx hb dX1_init_111 rfl (lv_at hl 0 rfl) ?_
    refine lv_bipush hx hb dX1_init_112 kc_b8 ?_
    refine lv_icmp_le (tgt := 120) hx hb dX1_init_114 (by decide) (fun c2_ => ?_) (fun c2_ => absurd (show nI 1 ≤ nI 8 by decide +kernel) c2_)
    refine lv_aload_n hx hb dX1_init_120 rfl (lv_at hl 1 rfl) ?_
    refine lv_iload_n hx hb dX1_init_121 rfl (lv_at hl 0 rfl) ?_
    refine va_putF (D := D) (ci := 0) (v := .int (nI 1)) (ty := .int) (C := RX1) (T := TX1) (N := 18) (ref := RX1) hx hb hts in_X1 tyX1 tyX1_ok nmX1 hown hK hP hD hS 0 rfl rfl 0 (by decide) (hts _ q36) (fun _ h9 => h9) rfl hin rfl (tyX1_ok 0 (by decide)) rfl rfl (Nat.le_of_ble_eq_true rfl) dX1_init_122 (fun H locs hP hD hS => ?_)
    have hP : va_P D vwCl [(h0, .inr (0, [.int (nI 1), .ref q1, .ref q2, .ref q3, .ref q4, .int (nI 0), .ref q6, .int (nI 0), .int (nI 0), .ref q9, .ref q10, .int (nI 0), .ref q12, .ref q13, .ref q14, .int (nI 0), .ref q16, .ref q17])), (q1, .inl (c1, 8, .inl (fun _ => nI 0))), (q2, .inl (c2, 64, .inl (fun _ => nI 0))), (q3, .inl (c3, 64, .inl (fun _ => nI 0))), (q4, .inl (c4, 192, .inl (fun _ => nI 0))), (q6, .inl (c6, 8, .inl (fun _ => nI 0))), (q9, .inl (c9, 8, .inr (.inl (fun _ => lN 0)))), (q10, .inl (c10, 64, .inl (fun _ => nI 0))), (q12, .inl (c12, 64, .inl (fun _ => nI 0))), (q13, .inl (c13, 64, .inl (fun _ => nI 0))), (q14, .inl (c14, 64, .inl (fun _ => nI 0))), (q16, .inl (c16, 64, .inl (fun _ => nI 0))), (q17, .inl (c17, 192, .inl (fun _ => nI 0)))] H := hP
    have hD : va_D A [(h0, .inr (0, [.int (nI 1), .ref q1, .ref q2, .ref q3, .ref q4, .int (nI 0), .ref q6, .int (nI 0), .int (nI 0), .ref q9, .ref q10, .int (nI 0), .ref q12, .ref q13, .ref q14, .int (nI 0), .ref q16, .ref q17])), (q1, .inl (c1, 8, .inl (fun _ => nI 0))), (q2, .inl (c2, 64, .inl (fun _ => nI 0))), (q3, .inl (c3, 64, .inl (fun _ => nI 0))), (q4, .inl (c4, 192, .inl (fun _ => nI 0))), (q6, .inl (c6, 8, .inl (fun _ => nI 0))), (q9, .inl (c9, 8, .inr (.inl (fun _ => lN 0)))), (q10, .inl (c10, 64, .inl (fun _ => nI 0))), (q12, .inl (c12, 64, .inl (fun _ => nI 0))), (q13, .inl (c13, 64, .inl (fun _ => nI 0))), (q14, .inl (c14, 64, .inl (fun _ => nI 0))), (q16, .inl (c16, 64, .inl (fun _ => nI 0))), (q17, .inl (c17, 192, .inl (fun _ => nI 0)))] := hD
    refine lv_aload_n hx hb dX1_init_125 rfl (lv_at hl 1 rfl) ?_
    refine lv_iconst hx hb dX1_init_126 kc_i1 ?_
    refine va_put (D := D) (ci := 0) (v := .int (nI 1)) (ty := .int) (C := RX1) (T := TX1) (N := 18) (ref := RX1) hx hb hts in_X1 tyX1 tyX1_ok nmX1 hown hK hP hD hS 0 rfl rfl 5 (by decide) (hts _ q41) (fun _ h9 => h9) rfl (tyX1_ok 5 (by decide)) rfl rfl (Nat.le_of_ble_eq_true rfl) dX1_init_127 (fun H locs hP hD hS => ?_)
    have hP : va_P G.1 vwCl (wl1 G (ci_s 1)) H := by rw [eG]; exact hP
    have hD : va_D A (wl1 G (ci_s 1)) := by rw [eG]; exact hD
    have hK : va_K G.1 vwCl (tys1 G) s := by rw [eG]; exact hK
    exact W.vret hx hb hr (fun t ht hW => ⟨⟨(G, ci_s 1), rfl, ⟨by rw [eG], by rw [eG], 1, by decide, by decide, rfl⟩, by rw [ht]; exact hP, va_K.moved hW.alike hK, hD⟩, hS.F ht⟩) hS.2.2 dX1_init_130
end
section
set_option maxRecDepth 100000
abbrev mX2_init : hx_M := (cX2_init, 3, none, RX2, { frames := 1, cells := 4, slots := 128, locals := 20 })
set_option maxHeartbeats 4000000 in
theorem ci_L2 {X : hx_X} {G : hx_G} (F : hx_F X mX2_init (V2 G)) (υ : hs_S) (K : hx_W X mX2_init (V2 G) (it_f cf_mi 8 0 υ) 57 [(0, .ref (hg_h G))] []) : hx_W X mX2_init (V2 G) υ 36 [(0, .ref (hg_h G))] [] := by
  refine hx_iconst (pc := 36) F dX2_init_36 kc_i0 ?_
  refine hx_istore_n (pc := 37) (lv' := [(0, .ref (hg_h G)), (2, .int (nI 0))]) F dX2_init_37 rfl (by decide) [1, 0] rfl ?_
  have L38 : ∀ (n38 : Nat) (r : Nat) (τ : hs_S), r + n38 = 8 → it_f cf_mi n38 r τ = it_f cf_mi 8 0 υ → hx_W X mX2_init (V2 G) τ 38 [(0, .ref (hg_h G)), (2, .int (nI r))] [] := by
    intro n38
    induction n38 with
    | zero =>
      intro r τ hi38 hf38
      have hz38 : r = 8 := by omega
      have hs38 : τ = it_f cf_mi 8 0 υ := hf38
      refine hx_as (σ' := it_f cf_mi 8 0 υ) (lv' := [(0, .ref (hg_h G)), (2, .int (nI 8))]) hs38 rfl (by rw [hz38]) rfl ?_
      refine hx_iload_n (pc := 38) F dX2_init_38 rfl 1 rfl ?_
      refine hx_bipush (pc := 39) F dX2_init_39 kc_b8 ?_
      refine hx_icmp_ge (pc := 41) (tgt := 57) F (by omega) (by omega) dX2_init_41 (by decide) (fun h41 => ?_) (fun h41 => absurd h41 (by omega))
      refine hx_sub [0] (lv' := [(0, .ref (hg_h G))]) rfl ?_
      exact K
    | succ n38 ih38 =>
      intro r τ hi38 hf38
      have hf38 : it_f cf_mi n38 (r + 1) (cf_mi r τ) = it_f cf_mi 8 0 υ := hf38
      refine hx_iload_n (pc := 38) F dX2_init_38 rfl 1 rfl ?_
      refine hx_bipush (pc := 39) F dX2_init_39 kc_b8 ?_
      refine hx_icmp_ge (pc := 41) (tgt := 57) F (by omega) (by omega) dX2_init_41 (by decide) (fun h41 => absurd h41 (by omega)) (fun h41 => ?_)
      refine hx_aload_n (pc := 44) F dX2_init_44 rfl 0 rfl ?_
      refine h2_g0 (pc := 45) F rfl dX2_init_45 ?_
      refine hx_iload_n (pc := 48) F dX2_init_48 rfl 1 rfl ?_
      refine hx_iconst (pc := 49) F dX2_init_49 kc_im1 ?_
      refine h2_s0 (pc := 50) F (by omega) dX2_init_50 ?_
      refine hx_iinc (pc := 51) (lv' := [(0, .ref (hg_h G)), (2, .int (nI (r + 1)))]) F dX2_init_51 1 rfl (hx_inc1 _) (by decide) [1, 0] rfl ?_
      refine hx_goto (pc := 54) (tgt := 38) F dX2_init_54 (by decide) ?_
      have e38 : cf_mi r τ = (hs_st τ 0 r 4294967295) := rfl
      rw [e38] at hf38
      exact ih38 (r + 1) _ (by omega) hf38
  exact L38 (8) 0 υ (by omega) rfl
set_option maxHeartbeats 8000000 in
theorem ci_X2 (l : Launch) (D : va_G) (h0 : Nat) (x : Int32) (sz : Nat) : Met l yX2_init (ws_ yX2_init cX2_init 3 none) { frames := 1, cells := 4, slots := 128, locals := 20 } (va_Pc [.ref h0, .int x] (fun U => U.heap.size = sz ∧ va_P D vwCl [(h0, .inr (1, fsX2))] U.heap ∧ va_K D vwCl [] U ∧ va_D (fun _ => True) [(h0, .inr (1, fsX2))])) (va_Qv (fun u : hx_G × hs_S => u.1.1 = D ∧ hg_h u.1 = h0 ∧ u.2 = ci_m) (fun u t => hx_B (V2 u.1) (va_A [(h0, .inr (1, fsX2))] sz) u.2 t) (va_A [(h0, .inr (1, fsX2))] sz)) 4 128 (va_A [(h0, .inr (1, fsX2))] sz) := by
  refine Met.ofW (cc := cX2_init) (maxL := 3) (ret := none) (by decide) rfl ?_
  intro p e s m args below meth c s₁ B hml hv
  obtain ⟨rfl, hsz, hP, hK, hD0⟩ := hv
  have hx := B.exec
  have hb := B.bytes
  have hr := B.returns
  have hts := atoms_spec (ws := ws_ yX2_init cX2_init 3 none) B.pre
  have hts : ∀ w ∈ lw_all, w.before _ s = true := fun w h => hts w (List.mem_cons_of_mem _ h)
  have hown : s.vm.findClass RX2 = some m.cls := findClass_of_methodNamed B.named
  have hlocks := B.notSynchronized
  have hin : meth.name = "<init>" := (name_of_methodNamed B.named B.method).1
  subst hsz
  have hD := hD0.self (sz := s.heap.size)
  generalize hAe : va_A [(h0, .inr (1, fsX2))] s.heap.size = A at hD ⊢
  have hA : ∀ q : Nat, s.heap.size ≤ q → A q := fun q h => by rw [← hAe]; exact Or.inr h
  have hS : va_S A s.heap s.heap [] := va_S.rf
  have hP : va_P D vwCl [(h0, .inr (1, fsX2))] s.heap := hP
  have hl := lv_entry ([.ref h0, .int x]) (n := 3) (Nat.le_of_ble_eq_true rfl)
  rw [lg_entry_eq]
  generalize (lg_sl ([.ref h0, .int x]) ++ List.replicate (3 - (lg_sl ([.ref h0, .int x])).length) Slot.unset).toArray = ls at hl ⊢
  have hl : lv_has ls 3 [(0, .ref h0), (1, .int x)] := hl
  refine lv_aload_n hx hb dX2_init_0 rfl (lv_at hl 0 rfl) ?_
  refine W.objInit hx hb hown (hts _ q246) (hts _ q34) (hts _ q35) rfl (by rw [hml]; exact hl.1) rfl dX2_init_1 (Nat.le_of_ble_eq_true rfl) (Nat.le_of_ble_eq_true rfl) ?_
  refine W.eq (g2 := F0 m 4 ls []) rfl ?_
  refine lv_aload_n hx hb dX2_init_4 rfl (lv_at hl 0 rfl) ?_
  refine lv_bipush hx hb dX2_init_5 kc_b8 ?_
  refine va_newa (atype := .int) (ty := .int) (N' := 8) (a0 := (8, .inl (fun _ => nI 0))) hx hb (hts _ q91) rfl hK hP hD hS hA (fun cA => ai_i cA 8) (by decide +kernel) (by decide +kernel) (by decide) (Nat.le_of_ble_eq_true rfl) (Nat.le_of_ble_eq_true rfl) dX2_init_7 (fun q0 c0 H hK hP hD hS => ?_)
  have hK : va_K D vwCl [(c0, .int)] s := hK
  have hP : va_P D vwCl [(h0, .inr (1, [.null, .null, .null, .null])), (q0, .inl (c0, 8, .inl (fun _ => nI 0)))] H := hP
  have hD : va_D A [(h0, .inr (1, [.null, .null, .null, .null])), (q0, .inl (c0, 8, .inl (fun _ => nI 0)))] := hD
  refine va_putF (D := D) (ci := 1) (v := .ref q0) (ty := .array .int) (C := RX2) (T := TX2) (N := 4) (ref := RX2) hx hb hts in_X2 tyX2 tyX2_ok nmX2 hown hK hP hD hS 0 rfl rfl 0 (by decide) (hts _ q247) (fun _ h9 => h9) rfl hin rfl (tyX2_ok 0 (by decide)) rfl rfl (Nat.le_of_ble_eq_true rfl) dX2_init_9 (fun H locs hP hD hS => ?_)
  have hP : va_P D vwCl [(h0, .inr (1, [.ref q0, .null, .null, .null])), (q0, .inl (c0, 8, .inl (fun _ => nI 0)))] H := hP
  have hD : va_D A [(h0, .inr (1, [.ref q0, .null, .null, .null])), (q0, .inl (c0, 8, .inl (fun _ => nI 0)))] := hD
  refine lv_aload_n hx hb dX2_init_12 rfl (lv_at hl 0 rfl) ?_
  refine lv_bipush hx hb dX2_init_13 kc_b72 ?_
  refine va_newa (atype := .int) (ty := .int) (N' := 72) (a0 := (72, .inl (fun _ => nI 0))) hx hb (hts _ q91) rfl hK hP hD hS hA (fun cA => ai_i cA 72) (by decide +kernel) (by decide +kernel) (by decide) (Nat.le_of_ble_eq_true rfl) (Nat.le_of_ble_eq_true rfl) dX2_init_15 (fun q1 c1 H hK hP hD hS => ?_)
  have hK : va_K D vwCl [(c0, .int), (c1, .int)] s := hK
  have hP : va_P D vwCl [(h0, .inr (1, [.ref q0, .null, .null, .null])), (q0, .inl (c0, 8, .inl (fun _ => nI 0))), (q1, .inl (c1, 72, .inl (fun _ => nI 0)))] H := hP
  have hD : va_D A [(h0, .inr (1, [.ref q0, .null, .null, .null])), (q0, .inl (c0, 8, .inl (fun _ => nI 0))), (q1, .inl (c1, 72, .inl (fun _ => nI 0)))] := hD
  refine va_putF (D := D) (ci := 1) (v := .ref q1) (ty := .array .int) (C := RX2) (T := TX2) (N := 4) (ref := RX2) hx hb hts in_X2 tyX2 tyX2_ok nmX2 hown hK hP hD hS 0 rfl rfl 1 (by decide) (hts _ q248) (fun _ h9 => h9) rfl hin rfl (tyX2_ok 1 (by decide)) rfl rfl (Nat.le_of_ble_eq_true rfl) dX2_init_17 (fun H locs hP hD hS => ?_)
  have hP : va_P D vwCl [(h0, .inr (1, [.ref q0, .ref q1, .null, .null])), (q0, .inl (c0, 8, .inl (fun _ => nI 0))), (q1, .inl (c1, 72, .inl (fun _ => nI 0)))] H := hP
  have hD : va_D A [(h0, .inr (1, [.ref q0, .ref q1, .null, .null])), (q0, .inl (c0, 8, .inl (fun _ => nI 0))), (q1, .inl (c1, 72, .inl (fun _ => nI 0)))] := hD
  refine lv_aload_n hx hb dX2_init_20 rfl (lv_at hl 0 rfl) ?_
  refine lv_bipush hx hb dX2_init_21 kc_b24 ?_
  refine va_newa (atype := .int) (ty := .int) (N' := 24) (a0 := (24, .inl (fun _ => nI 0))) hx hb (hts _ q91) rfl hK hP hD hS hA (fun cA => ai_i cA 24) (by decide +kernel) (by decide +kernel) (by decide) (Nat.le_of_ble_eq_true rfl) (Nat.le_of_ble_eq_true rfl) dX2_init_23 (fun q2 c2 H hK hP hD hS => ?_)
  have hK : va_K D vwCl [(c0, .int), (c1, .int), (c2, .int)] s := hK
  have hP : va_P D vwCl [(h0, .inr (1, [.ref q0, .ref q1, .null, .null])), (q0, .inl (c0, 8, .inl (fun _ => nI 0))), (q1, .inl (c1, 72, .inl (fun _ => nI 0))), (q2, .inl (c2, 24, .inl (fun _ => nI 0)))] H := hP
  have hD : va_D A [(h0, .inr (1, [.ref q0, .ref q1, .null, .null])), (q0, .inl (c0, 8, .inl (fun _ => nI 0))), (q1, .inl (c1, 72, .inl (fun _ => nI 0))), (q2, .inl (c2, 24, .inl (fun _ => nI 0)))] := hD
  refine va_putF (D := D) (ci := 1) (v := .ref q2) (ty := .array .int) (C := RX2) (T := TX2) (N := 4) (ref := RX2) hx hb hts in_X2 tyX2 tyX2_ok nmX2 hown hK hP hD hS 0 rfl rfl 2 (by decide) (hts _ q249) (fun _ h9 => h9) rfl hin rfl (tyX2_ok 2 (by decide)) rfl rfl (Nat.le_of_ble_eq_true rfl) dX2_init_25 (fun H locs hP hD hS => ?_)
  have hP : va_P D vwCl [(h0, .inr (1, [.ref q0, .ref q1, .ref q2, .null])), (q0, .inl (c0, 8, .inl (fun _ => nI 0))), (q1, .inl (c1, 72, .inl (fun _ => nI 0))), (q2, .inl (c2, 24, .inl (fun _ => nI 0)))] H := hP
  have hD : va_D A [(h0, .inr (1, [.ref q0, .ref q1, .ref q2, .null])), (q0, .inl (c0, 8, .inl (fun _ => nI 0))), (q1, .inl (c1, 72, .inl (fun _ => nI 0))), (q2, .inl (c2, 24, .inl (fun _ => nI 0)))] := hD
  refine lv_aload_n hx hb dX2_init_28 rfl (lv_at hl 0 rfl) ?_
  refine lv_bipush hx hb dX2_init_29 kc_b24 ?_
  refine va_newa (atype := .int) (ty := .int) (N' := 24) (a0 := (24, .inl (fun _ => nI 0))) hx hb (hts _ q91) rfl hK hP hD hS hA (fun cA => ai_i cA 24) (by decide +kernel) (by decide +kernel) (by decide) (Nat.le_of_ble_eq_true rfl) (Nat.le_of_ble_eq_true rfl) dX2_init_31 (fun q3 c3 H hK hP hD hS => ?_)
  have hK : va_K D vwCl [(c0, .int), (c1, .int), (c2, .int), (c3, .int)] s := hK
  have hP : va_P D vwCl [(h0, .inr (1, [.ref q0, .ref q1, .ref q2, .null])), (q0, .inl (c0, 8, .inl (fun _ => nI 0))), (q1, .inl (c1, 72, .inl (fun _ => nI 0))), (q2, .inl (c2, 24, .inl (fun _ => nI 0))), (q3, .inl (c3, 24, .inl (fun _ => nI 0)))] H := hP
  have hD : va_D A [(h0, .inr (1, [.ref q0, .ref q1, .ref q2, .null])), (q0, .inl (c0, 8, .inl (fun _ => nI 0))), (q1, .inl (c1, 72, .inl (fun _ => nI 0))), (q2, .inl (c2, 24, .inl (fun _ => nI 0))), (q3, .inl (c3, 24, .inl (fun _ => nI 0)))] := hD
  refine va_putF (D := D) (ci := 1) (v := .ref q3) (ty := .array .int) (C := RX2) (T := TX2) (N := 4) (ref := RX2) hx hb hts in_X2 tyX2 tyX2_ok nmX2 hown hK hP hD hS 0 rfl rfl 3 (by decide) (hts _ q250) (fun _ h9 => h9) rfl hin rfl (tyX2_ok 3 (by decide)) rfl rfl (Nat.le_of_ble_eq_true rfl) dX2_init_33 (fun H locs hP hD hS => ?_)
  have hP : va_P D vwCl [(h0, .inr (1, [.ref q0, .ref q1, .ref q2, .ref q3])), (q0, .inl (c0, 8, .inl (fun _ => nI 0))), (q1, .inl (c1, 72, .inl (fun _ => nI 0))), (q2, .inl (c2, 24, .inl (fun _ => nI 0))), (q3, .inl (c3, 24, .inl (fun _ => nI 0)))] H := hP
  have hD : va_D A [(h0, .inr (1, [.ref q0, .ref q1, .ref q2, .ref q3])), (q0, .inl (c0, 8, .inl (fun _ => nI 0))), (q1, .inl (c1, 72, .inl (fun _ => nI 0))), (q2, .inl (c2, 24, .inl (fun _ => nI 0))), (q3, .inl (c3, 24, .inl (fun _ => nI 0)))] := hD
  refine W.widen (k := 4) (n := 128) (Nat.le_of_ble_eq_true rfl) (Nat.le_of_ble_eq_true rfl) ?_
  obtain ⟨G, eG⟩ : ∃ G : hx_G, G = (D, h0, (fun k => if k = 0 then q0 else if k = 1 then q1 else if k = 2 then q2 else q3), (fun k => if k = 0 then c0 else if k = 1 then c1 else if k = 2 then c2 else c3)) := ⟨_, rfl⟩
  have hP : va_P G.1 vwCl (wl2 G ci_z) H := by rw [eG]; exact hP
  have hD : va_D A (wl2 G ci_z) := by rw [eG]; exact hD
  have hK : va_K G.1 vwCl (tys2 G) s := by rw [eG]; exact hK
  have eh : hg_h G = h0 := by rw [eG]
  have hl : lv_has ls 3 [(0, .ref (hg_h G))] := by rw [eh]; exact lv_sub hl [0] rfl
  refine ci_L2 (X := (p, l, e, s, m, _, below, meth, c, 4, 128, _, A)) (G := G) ⟨hx, hb, hml, hown, hts, hr, hlocks, hK, hA, ⟨Nat.le_refl _, Nat.le_refl _⟩⟩ ci_z (fun H locs ls hP hD hS hl => ?_) H locs ls hP hD hS hl
  exact W.vret hx hb hr (fun t ht hW => ⟨⟨(G, ci_m), rfl, ⟨by rw [eG], eh, rfl⟩, by rw [ht]; exact hP, va_K.moved hW.alike hK, hD⟩, hS.F ht⟩) hS.2.2 dX2_init_57
theorem ci_m_v : (∀ r, r < 8 → ci_m 0 r = 4294967295) ∧ ∀ k, k ≠ 0 → ci_m k = ci_z k :=
  it_inv0 (f := cf_mi) (N := 8) (fun i v => (∀ s, s < i → v 0 s = 4294967295) ∧ ∀ k, k ≠ 0 → v k = ci_z k) (fun i v hi h => ⟨fun s hs => by
      show hs_st v 0 i 4294967295 0 s = _
      rw [hs_if]
      split
      · rfl
      · exact h.1 s (by omega), fun k hk => by
      show hs_st v 0 i 4294967295 k = _
      rw [hs_fn _ _ _ hk]
      exact h.2 k hk⟩) ci_z ⟨fun s hs => absurd hs (Nat.not_lt_zero s), fun _ _ => rfl⟩
/-- the two sides are alike at the start -/
theorem sim_init {st : Nat} (h1 : 1 ≤ st) (h8 : st ≤ 8) : SIM (ci_s st) ci_m := by
  obtain ⟨m0, mo⟩ := ci_m_v
  have e : ∀ k j, k ≠ 0 → k ≠ 5 → ci_s st k j = 0 := fun k j a b => (if_neg a).trans (if_neg b)
  have e0 : ci_s st 0 0 = st := rfl
  have e5 : ci_s st 5 0 = 1 := rfl
  have e8 : ci_s st 8 0 = 0 := rfl
  have e7 : ci_s st 7 0 = 0 := rfl
  generalize ci_s st = σ at e e0 e5 e8 e7 ⊢
  refine ⟨⟨⟨by omega, by omega, fun i _ => by rw [e 6 i (by decide) (by decide)]; decide, fun i j hij hj => by omega, by omega⟩, by omega, ⟨fun s _ => by rw [e 2 s (by decide) (by decide)]; decide, fun s _ h => by rw [e 2 s (by decide) (by decide)] at h; omega⟩, fun r _ => ?_, fun s _ h => by rw [e 2 s (by decide) (by decide)] at h; omega, fun b _ => by rw [e 9 b (by decide) (by decide)]; decide, by omega, by omega, by omega⟩, ⟨fun r hr => Or.inr (m0 r hr), fun i _ => Or.inl ?_⟩, fun _ _ => False, fun _ _ _ h => absurd h id, fun _ _ _ h => absurd h id, fun r hr => ?_, fun _ _ h => absurd h id⟩
  · rw [e 1 r (by decide) (by decide)]
    exact ⟨by decide, fun s hs => by omega⟩
  · rw [mo 1 (by decide)]
    show 0 < 24
    decide
  · show gr_rr _ (σ 1 r) (gr_e (ci_m 0 r))
    rw [e 1 r (by decide) (by decide), m0 r hr]
    exact Or.inl ⟨rfl, rfl⟩
end
section
set_option maxRecDepth 100000
/-- both objects -/
abbrev V12 (G1 G2 : hx_G) : hx_V (hs_S × hs_S) := (G1.1, fun u => wl1 G1 u.1 ++ wl2 G2 u.2, tys1 G1 ++ tys2 G2)
abbrev mL : hx_M := (code, 4, ret, RX0, room_1)
section HYL
variable {S : Type} {X : hx_X} {M : hx_M} {V : hx_V S} {σ : S} {pc : Nat} {lv : List (Nat × Value)} {st rest : List Value}
/-- an int of the script as a number -/
def ly_n (xs : Nat → Int32) (i : Nat) : Nat := (xs i).toBitVec.toNat
theorem ly_lt (xs : Nat → Int32) (i : Nat) : ly_n xs i < 4294967296 := (xs i).toBitVec.isLt
theorem ly_eq (xs : Nat → Int32) (i : Nat) : xs i = nI (ly_n xs i) := Int32.toBitVec_inj.mp (by show _ = BitVec.ofNat 32 _; unfold ly_n; simp)
theorem hy_len (F : hx_F X M V) {b L : Nat} {xs : Nat → Int32} (hX : va_X b L xs (hx_s X) (hx_s X).heap) (hbl : b < (hx_s X).heap.size) (hbA : ¬ hx_A X b) (hdg : decode M.1 pc = .ok (.arraylength, 1)) (kk : hx_W X M V σ (pc + 1) lv (.int (nI L) :: st)) : hx_W X M V σ pc lv (.ref b :: st) :=
  fun H locs ls hP hD hS hl => va_slen F.1 F.2.1 hX hbl hbA hS hdg (kk H locs ls hP hD hS hl)
theorem hy_ld (F : hx_F X M V) {b L : Nat} {xs : Nat → Int32} (hX : va_X b L xs (hx_s X) (hx_s X).heap) (hbl : b < (hx_s X).heap.size) (hbA : ¬ hx_A X b) (hL : L < 2147483648) {i : Nat} (hi : i < L) (hdg : decode M.1 pc = .ok (.iaload, 1)) (kk : hx_W X M V σ (pc + 1) lv (.int (nI (ly_n xs i)) :: st)) : hx_W X M V σ pc lv (.int (nI i) :: .ref b :: st) :=
  fun H locs ls hP hD hS hl => va_sld F.1 F.2.1 hX hbl hbA hS (vp_in_nI hi hL) hdg (by rw [nI_clamp (Nat.lt_trans hi hL), ly_eq xs i]; exact kk H locs ls hP hD hS hl)
theorem hy_iand (F : hx_F X M V) {x y : Int32} (hdg : decode M.1 pc = .ok (.iand, 1)) (kk : hx_W X M V σ (pc + 1) lv (.int (x &&& y) :: st)) : hx_W X M V σ pc lv (.int y :: .int x :: st) :=
  fun H locs ls hP hD hS hl => lv_iand F.1 F.2.1 hdg (kk H locs ls hP hD hS hl)
theorem hy_tin (F : hx_F X M V) {dflt lo hi : Int} {offs : Array Int} {len : Nat} {x : Int32} {off : Int} {tgt : Nat} (hdg : decode M.1 pc = .ok (.tableswitch dflt lo hi offs, len)) (h1 : ¬ x.toInt < lo) (h2 : ¬ hi < x.toInt) (ho : offs[(x.toInt - lo).toNat]? = some off) (ht : (pc : Int) + off = (tgt : Int)) (kk : hx_W X M V σ tgt lv st) : hx_W X M V σ pc lv (.int x :: st) :=
  fun H locs ls hP hD hS hl => lv_tableIn F.1 F.2.1 hdg h1 h2 ho ht (kk H locs ls hP hD hS hl)
theorem hy_tout (F : hx_F X M V) {dflt lo hi : Int} {offs : Array Int} {len : Nat} {x : Int32} {tgt : Nat} (hdg : decode M.1 pc = .ok (.tableswitch dflt lo hi offs, len)) (h : x.toInt < lo ∨ hi < x.toInt) (ht : (pc : Int) + dflt = (tgt : Int)) (kk : hx_W X M V σ tgt lv st) : hx_W X M V σ pc lv (.int x :: st) :=
  fun H locs ls hP hD hS hl => lv_tableOut F.1 F.2.1 hdg h ht (kk H locs ls hP hD hS hl)
theorem ly_and {n : Nat} (h : n < 4294967296) : nI n &&& nI 15 = nI (n % 16) := by
  apply Int32.toBitVec_inj.mp
  rw [Int32.toBitVec_and]
  show BitVec.ofNat 32 n &&& BitVec.ofNat 32 15 = BitVec.ofNat 32 (n % 16)
  apply BitVec.eq_of_toNat_eq
  rw [BitVec.toNat_and, BitVec.toNat_ofNat, BitVec.toNat_ofNat, BitVec.toNat_ofNat, Nat.mod_eq_of_lt h, Nat.mod_eq_of_lt (show 15 < 2 ^ 32 by decide), Nat.mod_eq_of_lt (show n % 16 < 2 ^ 32 by omega)]
  exact Nat.and_two_pow_sub_one_eq_mod n 4
end HYL
section HYC
variable {X : hx_X} {M : hx_M} {G1 G2 : hx_G} {σ τ : hs_S} {pc : Nat} {lv : List (Nat × Value)} {st rest : List Value}
theorem hy_c1I {y : MethodName} {M' : hx_M} {index n : Nat} {As : List Value} {v : Nat} {ζ : hs_S} (F : hx_F X M (V12 G1 G2)) (hM : hx_cI (hx_l X) y M' (V1 G1) σ (.ref (hg_h G1) :: As) v ζ) (cw : CallW M.2.2.2.2 (hx_s X) (hx_args X) M.2.2.2.1 RX1 index y M'.1 M'.2.1 M'.2.2.1 (ws_ y M'.1 M'.2.1 M'.2.2.1) M'.2.2.2.2 0 0 n) (hn : As.length = n) (hst : st = As.reverse ++ .ref (hg_h G1) :: rest) (hrm : (rest.map fun v => v.category).sum ≤ 8) (hdg : decode M.1 pc = .ok (.invokevirtual index, 3))
    (kk : hx_W X M (V12 G1 G2) (ζ, τ) (pc + 3) lv (.int (nI v) :: rest)) : hx_W X M (V12 G1 G2) (σ, τ) pc lv st := by
  intro H locs ls hP hD hS hl
  obtain ⟨hx, hb, hml, hown, hts, -, -, hK, hA, hroom⟩ := id F
  have hPc : va_P G1.1 vwCl (wl1 G1 σ) H := by exact hP.sub [0, 1, 2, 3, 4, 5, 6, 7, 8, 9, 10, 11, 12] rfl
  have hDc : va_D (hx_A X) (wl1 G1 σ) := hD.sub [0, 1, 2, 3, 4, 5, 6, 7, 8, 9, 10, 11, 12] (by decide) rfl
  have hKc : va_K G1.1 vwCl (tys1 G1) (hx_s X) := by exact hK.sub [0, 1, 2, 3, 4, 5, 6, 7, 8, 9, 10, 11] rfl
  have hFc := va_free (wc := wl1 G1 σ) hD hS hA [0, 1, 2, 3, 4, 5, 6, 7, 8, 9, 10, 11, 12] rfl
  refine va_calli (va_runV (As := As) (rest := rest) ⟨hx, hb, hml, hown, hts⟩ (hM H.size) cw ⟨fun a U g mk q => by obtain ⟨q0, q1, qP, qK, qD⟩ := q; exact ⟨q0, q1, qP, va_K.moved (u := U) (U := U.calling g mk a) (Vm.Alike.refl U.vm) qK, qD⟩, va_recv hKc hPc (ci := 0) (q0 := 0) rfl rfl, fun U hU hW => ⟨rfl, by rw [hU], by rw [hU]; exact hPc, va_K.moved hW.alike hKc, hDc.weaken (fun _ _ _ _ => trivial)⟩⟩ rfl hn hl.1 hst (lv_room hrm) hdg hroom) hS (fun q _ h => hFc q h) hFc (fun r u t H1 locs1 ht hvm hp hB hz1 hk1 hS1 => ?_)
  obtain ⟨hP1, -, hD1⟩ := hB
  rw [ht] at hP1
  have hP1 : va_P G1.1 vwCl (wl1 G1 u) H1 := hP1
  obtain ⟨hP2, hD2⟩ := va_join (wr := wl2 G2 τ) (w1 := wl1 G1 u) hP hD [0, 1, 2, 3, 4, 5, 6, 7, 8, 9, 10, 11, 12] [13, 14, 15, 16, 17] rfl rfl (by decide) (by decide) hk1 hFc hP1 hD1
  obtain ⟨rfl, rfl⟩ := hp
  exact kk H1 locs1 ls (hP2.sub [5, 6, 7, 8, 9, 10, 11, 12, 13, 14, 15, 16, 17, 0, 1, 2, 3, 4] rfl) (hD2.sub [5, 6, 7, 8, 9, 10, 11, 12, 13, 14, 15, 16, 17, 0, 1, 2, 3, 4] (by decide) rfl) hS1 hl
theorem hy_c1V {y : MethodName} {M' : hx_M} {index n : Nat} {As : List Value} {ζ : hs_S} (F : hx_F X M (V12 G1 G2)) (hM : hx_cV (hx_l X) y M' (V1 G1) σ (.ref (hg_h G1) :: As) ζ) (cw : CallW M.2.2.2.2 (hx_s X) (hx_args X) M.2.2.2.1 RX1 index y M'.1 M'.2.1 M'.2.2.1 (ws_ y M'.1 M'.2.1 M'.2.2.1) M'.2.2.2.2 0 0 n) (hn : As.length = n) (hst : st = As.reverse ++ .ref (hg_h G1) :: rest) (hrm : (rest.map fun v => v.category).sum ≤ 8) (hdg : decode M.1 pc = .ok (.invokevirtual index, 3))
    (kk : hx_W X M (V12 G1 G2) (ζ, τ) (pc + 3) lv (rest)) : hx_W X M (V12 G1 G2) (σ, τ) pc lv st := by
  intro H locs ls hP hD hS hl
  obtain ⟨hx, hb, hml, hown, hts, -, -, hK, hA, hroom⟩ := id F
  have hPc : va_P G1.1 vwCl (wl1 G1 σ) H := by exact hP.sub [0, 1, 2, 3, 4, 5, 6, 7, 8, 9, 10, 11, 12] rfl
  have hDc : va_D (hx_A X) (wl1 G1 σ) := hD.sub [0, 1, 2, 3, 4, 5, 6, 7, 8, 9, 10, 11, 12] (by decide) rfl
  have hKc : va_K G1.1 vwCl (tys1 G1) (hx_s X) := by exact hK.sub [0, 1, 2, 3, 4, 5, 6, 7, 8, 9, 10, 11] rfl
  have hFc := va_free (wc := wl1 G1 σ) hD hS hA [0, 1, 2, 3, 4, 5, 6, 7, 8, 9, 10, 11, 12] rfl
  refine va_callv (va_runV (As := As) (rest := rest) ⟨hx, hb, hml, hown, hts⟩ (hM H.size) cw ⟨fun a U g mk q => by obtain ⟨q0, q1, qP, qK, qD⟩ := q; exact ⟨q0, q1, qP, va_K.moved (u := U) (U := U.calling g mk a) (Vm.Alike.refl U.vm) qK, qD⟩, va_recv hKc hPc (ci := 0) (q0 := 0) rfl rfl, fun U hU hW => ⟨rfl, by rw [hU], by rw [hU]; exact hPc, va_K.moved hW.alike hKc, hDc.weaken (fun _ _ _ _ => trivial)⟩⟩ rfl hn hl.1 hst (lv_room hrm) hdg hroom) hS (fun q _ h => hFc q h) hFc (fun u t H1 locs1 ht hvm hp hB hz1 hk1 hS1 => ?_)
  obtain ⟨hP1, -, hD1⟩ := hB
  rw [ht] at hP1
  have hP1 : va_P G1.1 vwCl (wl1 G1 u) H1 := hP1
  obtain ⟨hP2, hD2⟩ := va_join (wr := wl2 G2 τ) (w1 := wl1 G1 u) hP hD [0, 1, 2, 3, 4, 5, 6, 7, 8, 9, 10, 11, 12] [13, 14, 15, 16, 17] rfl rfl (by decide) (by decide) hk1 hFc hP1 hD1
  have hp : u = ζ := hp
  subst hp
  exact kk H1 locs1 ls (hP2.sub [5, 6, 7, 8, 9, 10, 11, 12, 13, 14, 15, 16, 17, 0, 1, 2, 3, 4] rfl) (hD2.sub [5, 6, 7, 8, 9, 10, 11, 12, 13, 14, 15, 16, 17, 0, 1, 2, 3, 4] (by decide) rfl) hS1 hl
theorem hy_c2I {y : MethodName} {M' : hx_M} {index n : Nat} {As : List Value} {v : Nat} {ζ : hs_S} (F : hx_F X M (V12 G1 G2)) (hG : G2.1 = G1.1) (hM : hx_cI (hx_l X) y M' (V2 G2) τ (.ref (hg_h G2) :: As) v ζ) (cw : CallW M.2.2.2.2 (hx_s X) (hx_args X) M.2.2.2.1 RX2 index y M'.1 M'.2.1 M'.2.2.1 (ws_ y M'.1 M'.2.1 M'.2.2.1) M'.2.2.2.2 0 0 n) (hn : As.length = n) (hst : st = As.reverse ++ .ref (hg_h G2) :: rest) (hrm : (rest.map fun v => v.category).sum ≤ 8) (hdg : decode M.1 pc = .ok (.invokevirtual index, 3))
    (kk : hx_W X M (V12 G1 G2) (σ, ζ) (pc + 3) lv (.int (nI v) :: rest)) : hx_W X M (V12 G1 G2) (σ, τ) pc lv st := by
  intro H locs ls hP hD hS hl
  obtain ⟨hx, hb, hml, hown, hts, -, -, hK, hA, hroom⟩ := id F
  have hPc : va_P G2.1 vwCl (wl2 G2 τ) H := by rw [hG]; exact hP.sub [13, 14, 15, 16, 17] rfl
  have hDc : va_D (hx_A X) (wl2 G2 τ) := hD.sub [13, 14, 15, 16, 17] (by decide) rfl
  have hKc : va_K G2.1 vwCl (tys2 G2) (hx_s X) := by rw [hG]; exact hK.sub [12, 13, 14, 15] rfl
  have hFc := va_free (wc := wl2 G2 τ) hD hS hA [13, 14, 15, 16, 17] rfl
  refine va_calli (va_runV (As := As) (rest := rest) ⟨hx, hb, hml, hown, hts⟩ (hM H.size) cw ⟨fun a U g mk q => by obtain ⟨q0, q1, qP, qK, qD⟩ := q; exact ⟨q0, q1, qP, va_K.moved (u := U) (U := U.calling g mk a) (Vm.Alike.refl U.vm) qK, qD⟩, va_recv hKc hPc (ci := 1) (q0 := 0) rfl rfl, fun U hU hW => ⟨rfl, by rw [hU], by rw [hU]; exact hPc, va_K.moved hW.alike hKc, hDc.weaken (fun _ _ _ _ => trivial)⟩⟩ rfl hn hl.1 hst (lv_room hrm) hdg hroom) hS (fun q _ h => hFc q h) hFc (fun r u t H1 locs1 ht hvm hp hB hz1 hk1 hS1 => ?_)
  obtain ⟨hP1, -, hD1⟩ := hB
  rw [ht] at hP1
  have hP1 : va_P G1.1 vwCl (wl2 G2 u) H1 := by rw [← hG]; exact hP1
  obtain ⟨hP2, hD2⟩ := va_join (wr := wl1 G1 σ) (w1 := wl2 G2 u) hP hD [13, 14, 15, 16, 17] [0, 1, 2, 3, 4, 5, 6, 7, 8, 9, 10, 11, 12] rfl rfl (by decide) (by decide) hk1 hFc hP1 hD1
  obtain ⟨rfl, rfl⟩ := hp
  exact kk H1 locs1 ls (hP2.sub [0, 1, 2, 3, 4, 5, 6, 7, 8, 9, 10, 11, 12, 13, 14, 15, 16, 17] rfl) (hD2.sub [0, 1, 2, 3, 4, 5, 6, 7, 8, 9, 10, 11, 12, 13, 14, 15, 16, 17] (by decide) rfl) hS1 hl
theorem hy_c2V {y : MethodName} {M' : hx_M} {index n : Nat} {As : List Value} {ζ : hs_S} (F : hx_F X M (V12 G1 G2)) (hG : G2.1 = G1.1) (hM : hx_cV (hx_l X) y M' (V2 G2) τ (.ref (hg_h G2) :: As) ζ) (cw : CallW M.2.2.2.2 (hx_s X) (hx_args X) M.2.2.2.1 RX2 index y M'.1 M'.2.1 M'.2.2.1 (ws_ y M'.1 M'.2.1 M'.2.2.1) M'.2.2.2.2 0 0 n) (hn : As.length = n) (hst : st = As.reverse ++ .ref (hg_h G2) :: rest) (hrm : (rest.map fun v => v.category).sum ≤ 8) (hdg : decode M.1 pc = .ok (.invokevirtual index, 3))
    (kk : hx_W X M (V12 G1 G2) (σ, ζ) (pc + 3) lv (rest)) : hx_W X M (V12 G1 G2) (σ, τ) pc lv st := by
  intro H locs ls hP hD hS hl
  obtain ⟨hx, hb, hml, hown, hts, -, -, hK, hA, hroom⟩ := id F
  have hPc : va_P G2.1 vwCl (wl2 G2 τ) H := by rw [hG]; exact hP.sub [13, 14, 15, 16, 17] rfl
  have hDc : va_D (hx_A X) (wl2 G2 τ) := hD.sub [13, 14, 15, 16, 17] (by decide) rfl
  have hKc : va_K G2.1 vwCl (tys2 G2) (hx_s X) := by rw [hG]; exact hK.sub [12, 13, 14, 15] rfl
  have hFc := va_free (wc := wl2 G2 τ) hD hS hA [13, 14, 15, 16, 17] rfl
  refine va_callv (va_runV (As := As) (rest := rest) ⟨hx, hb, hml, hown, hts⟩ (hM H.size) cw ⟨fun a U g mk q => by obtain ⟨q0, q1, qP, qK, qD⟩ := q; exact ⟨q0, q1, qP, va_K.moved (u := U) (U := U.calling g mk a) (Vm.Alike.refl U.vm) qK, qD⟩, va_recv hKc hPc (ci := 1) (q0 := 0) rfl rfl, fun U hU hW => ⟨rfl, by rw [hU], by rw [hU]; exact hPc, va_K.moved hW.alike hKc, hDc.weaken (fun _ _ _ _ => trivial)⟩⟩ rfl hn hl.1 hst (lv_room hrm) hdg hroom) hS (fun q _ h => hFc q h) hFc (fun u t H1 locs1 ht hvm hp hB hz1 hk1 hS1 => ?_)
  obtain ⟨hP1, -, hD1⟩ := hB
  rw [ht] at hP1
  have hP1 : va_P G1.1 vwCl (wl2 G2 u) H1 := by rw [← hG]; exact hP1
  obtain ⟨hP2, hD2⟩ := va_join (wr := wl1 G1 σ) (w1 := wl2 G2 u) hP hD [13, 14, 15, 16, 17] [0, 1, 2, 3, 4, 5, 6, 7, 8, 9, 10, 11, 12] rfl rfl (by decide) (by decide) hk1 hFc hP1 hD1
  have hp : u = ζ := hp
  subst hp
  exact kk H1 locs1 ls (hP2.sub [0, 1, 2, 3, 4, 5, 6, 7, 8, 9, 10, 11, 12, 13, 14, 15, 16, 17] rfl) (hD2.sub [0, 1, 2, 3, 4, 5, 6, 7, 8, 9, 10, 11, 12, 13, 14, 15, 16, 17] (by decide) rfl) hS1 hl
end HYC
end
section
set_option maxRecDepth 100000
set_option maxHeartbeats 4000000 in
theorem lc_0 {X : hx_X} {G1 G2 : hx_G} {b L i : Nat} {xs : Nat → Int32} {σ τ : hs_S} (F : hx_F X mL (V12 G1 G2)) (hG : G2.1 = G1.1) (hX : va_X b L xs (hx_s X) (hx_s X).heap) (hbl : b < (hx_s X).heap.size) (hbA : ¬ hx_A X b) (hL : L ≤ 257) (hi : i + 3 < L) (S : SIM σ τ) (K : ∀ σ' τ', SIM σ' τ' → hx_W X mL (V12 G1 G2) (σ', τ') 492 [(0, .ref b), (1, .ref (hg_h G1)), (2, .ref (hg_h G2)), (3, .int (nI i))] []) : hx_W X mL (V12 G1 G2) (σ, τ) 112 [(0, .ref b), (1, .ref (hg_h G1)), (2, .ref (hg_h G2)), (3, .int (nI i))] [] := by
  obtain ⟨k1, k2, ke, kS⟩ := sim_make S (ly_n xs (i + 1)) (ly_n xs (i + 2))
  refine hx_aload_n (pc := 112) F dL_law_112 rfl 1 rfl ?_
  refine hx_aload_n (pc := 113) F dL_law_113 rfl 0 rfl ?_
  refine hx_iload_n (pc := 114) F dL_law_114 rfl 3 rfl ?_
  refine hx_iconst (pc := 115) F dL_law_115 kc_i1 ?_
  refine hx_iadd (pc := 116) F dL_law_116 ?_
  refine hy_ld (pc := 117) F hX hbl hbA (by omega) (by omega) dL_law_117 ?_
  refine hx_aload_n (pc := 118) F dL_law_118 rfl 0 rfl ?_
  refine hx_iload_n (pc := 119) F dL_law_119 rfl 3 rfl ?_
  refine hx_iconst (pc := 120) F dL_law_120 kc_i2 ?_
  refine hx_iadd (pc := 121) F dL_law_121 ?_
  refine hy_ld (pc := 122) F hX hbl hbA (by omega) (by omega) dL_law_122 ?_
  refine hy_c1I (pc := 123) (As := [.int (nI (ly_n xs (i + 1))), .int (nI (ly_n xs (i + 2)))]) (rest := []) F (ct_X1_make _ G1 σ (ly_n xs (i + 1)) (ly_n xs (i + 2)) ⟨ly_lt xs (i + 1), k1⟩) (cwV 2 F.2.2.2.2.1 (lw_V q94 q95 q96 q26 q97) rfl rfl rfl (by decide +kernel) ⟨Nat.le_of_ble_eq_true rfl, Nat.le_of_ble_eq_true rfl⟩) rfl rfl (Nat.le_of_ble_eq_true rfl) dL_law_123 ?_
  refine hx_aload_n (pc := 126) F dL_law_126 rfl 2 rfl ?_
  refine hx_aload_n (pc := 127) F dL_law_127 rfl 0 rfl ?_
  refine hx_iload_n (pc := 128) F dL_law_128 rfl 3 rfl ?_
  refine hx_iconst (pc := 129) F dL_law_129 kc_i1 ?_
  refine hx_iadd (pc := 130) F dL_law_130 ?_
  refine hy_ld (pc := 131) F hX hbl hbA (by omega) (by omega) dL_law_131 ?_
  refine hx_aload_n (pc := 132) F dL_law_132 rfl 0 rfl ?_
  refine hx_iload_n (pc := 133) F dL_law_133 rfl 3 rfl ?_
  refine hx_iconst (pc := 134) F dL_law_134 kc_i2 ?_
  refine hx_iadd (pc := 135) F dL_law_135 ?_
  refine hy_ld (pc := 136) F hX hbl hbA (by omega) (by omega) dL_law_136 ?_
  refine hy_c2I (pc := 137) (As := [.int (nI (ly_n xs (i + 1))), .int (nI (ly_n xs (i + 2)))]) (rest := [.int _]) F hG (ct_X2_make _ G2 τ (ly_n xs (i + 1)) (ly_n xs (i + 2)) ⟨ly_lt xs (i + 1), k2⟩) (cwV 2 F.2.2.2.2.1 (lw_V q260 q261 q262 q27 q263) rfl rfl rfl (by decide +kernel) ⟨Nat.le_of_ble_eq_true rfl, Nat.le_of_ble_eq_true rfl⟩) rfl rfl (Nat.le_of_ble_eq_true rfl) dL_law_137 ?_
  refine hx_icmp_eqR (pc := 140) (tgt := 492) F dL_law_140 (by decide) (fun _ => ?_) (fun h => absurd (congrArg nI (ke)) h)
  exact K _ _ kS
set_option maxHeartbeats 4000000 in
theorem lc_1 {X : hx_X} {G1 G2 : hx_G} {b L i : Nat} {xs : Nat → Int32} {σ τ : hs_S} (F : hx_F X mL (V12 G1 G2)) (hG : G2.1 = G1.1) (hX : va_X b L xs (hx_s X) (hx_s X).heap) (hbl : b < (hx_s X).heap.size) (hbA : ¬ hx_A X b) (hL : L ≤ 257) (hi : i + 3 < L) (S : SIM σ τ) (K : ∀ σ' τ', SIM σ' τ' → hx_W X mL (V12 G1 G2) (σ', τ') 492 [(0, .ref b), (1, .ref (hg_h G1)), (2, .ref (hg_h G2)), (3, .int (nI i))] []) : hx_W X mL (V12 G1 G2) (σ, τ) 145 [(0, .ref b), (1, .ref (hg_h G1)), (2, .ref (hg_h G2)), (3, .int (nI i))] [] := by
  refine hx_aload_n (pc := 145) F dL_law_145 rfl 1 rfl ?_
  refine hx_aload_n (pc := 146) F dL_law_146 rfl 0 rfl ?_
  refine hx_iload_n (pc := 147) F dL_law_147 rfl 3 rfl ?_
  refine hx_iconst (pc := 148) F dL_law_148 kc_i1 ?_
  refine hx_iadd (pc := 149) F dL_law_149 ?_
  refine hy_ld (pc := 150) F hX hbl hbA (by omega) (by omega) dL_law_150 ?_
  refine hx_aload_n (pc := 151) F dL_law_151 rfl 0 rfl ?_
  refine hx_iload_n (pc := 152) F dL_law_152 rfl 3 rfl ?_
  refine hx_iconst (pc := 153) F dL_law_153 kc_i2 ?_
  refine hx_iadd (pc := 154) F dL_law_154 ?_
  refine hy_ld (pc := 155) F hX hbl hbA (by omega) (by omega) dL_law_155 ?_
  refine hy_c1I (pc := 156) (As := [.int (nI (ly_n xs (i + 1))), .int (nI (ly_n xs (i + 2)))]) (rest := []) F (ct_X1_copyRoot _ G1 σ (ly_n xs (i + 1)) (ly_n xs (i + 2)) ⟨ly_lt xs (i + 1), ly_lt xs (i + 2)⟩) (cwV 2 F.2.2.2.2.1 (lw_V q179 q180 q181 q26 q182) rfl rfl rfl (by decide +kernel) ⟨Nat.le_of_ble_eq_true rfl, Nat.le_of_ble_eq_true rfl⟩) rfl rfl (Nat.le_of_ble_eq_true rfl) dL_law_156 ?_
  refine hx_aload_n (pc := 159) F dL_law_159 rfl 2 rfl ?_
  refine hx_aload_n (pc := 160) F dL_law_160 rfl 0 rfl ?_
  refine hx_iload_n (pc := 161) F dL_law_161 rfl 3 rfl ?_
  refine hx_iconst (pc := 162) F dL_law_162 kc_i1 ?_
  refine hx_iadd (pc := 163) F dL_law_163 ?_
  refine hy_ld (pc := 164) F hX hbl hbA (by omega) (by omega) dL_law_164 ?_
  refine hx_aload_n (pc := 165) F dL_law_165 rfl 0 rfl ?_
  refine hx_iload_n (pc := 166) F dL_law_166 rfl 3 rfl ?_
  refine hx_iconst (pc := 167) F dL_law_167 kc_i2 ?_
  refine hx_iadd (pc := 168) F dL_law_168 ?_
  refine hy_ld (pc := 169) F hX hbl hbA (by omega) (by omega) dL_law_169 ?_
  refine hy_c2I (pc := 170) (As := [.int (nI (ly_n xs (i + 1))), .int (nI (ly_n xs (i + 2)))]) (rest := [.int _]) F hG (ct_X2_copyRoot _ G2 τ (ly_n xs (i + 1)) (ly_n xs (i + 2)) ⟨ly_lt xs (i + 1), ly_lt xs (i + 2)⟩) (cwV 2 F.2.2.2.2.1 (lw_V q280 q281 q282 q27 q283) rfl rfl rfl (by decide +kernel) ⟨Nat.le_of_ble_eq_true rfl, Nat.le_of_ble_eq_true rfl⟩) rfl rfl (Nat.le_of_ble_eq_true rfl) dL_law_170 ?_
  refine hx_icmp_eqR (pc := 173) (tgt := 492) F dL_law_173 (by decide) (fun _ => ?_) (fun h => absurd (congrArg nI (rfl)) h)
  exact K _ _ (sim_copy S (ly_n xs (i + 1)) (ly_n xs (i + 2)))
set_option maxHeartbeats 4000000 in
theorem lc_2 {X : hx_X} {G1 G2 : hx_G} {b L i : Nat} {xs : Nat → Int32} {σ τ : hs_S} (F : hx_F X mL (V12 G1 G2)) (hG : G2.1 = G1.1) (hX : va_X b L xs (hx_s X) (hx_s X).heap) (hbl : b < (hx_s X).heap.size) (hbA : ¬ hx_A X b) (hL : L ≤ 257) (hi : i + 3 < L) (S : SIM σ τ) (K : ∀ σ' τ', SIM σ' τ' → hx_W X mL (V12 G1 G2) (σ', τ') 492 [(0, .ref b), (1, .ref (hg_h G1)), (2, .ref (hg_h G2)), (3, .int (nI i))] []) : hx_W X mL (V12 G1 G2) (σ, τ) 178 [(0, .ref b), (1, .ref (hg_h G1)), (2, .ref (hg_h G2)), (3, .int (nI i))] [] := by
  refine hx_aload_n (pc := 178) F dL_law_178 rfl 1 rfl ?_
  refine hx_aload_n (pc := 179) F dL_law_179 rfl 0 rfl ?_
  refine hx_iload_n (pc := 180) F dL_law_180 rfl 3 rfl ?_
  refine hx_iconst (pc := 181) F dL_law_181 kc_i1 ?_
  refine hx_iadd (pc := 182) F dL_law_182 ?_
  refine hy_ld (pc := 183) F hX hbl hbA (by omega) (by omega) dL_law_183 ?_
  refine hy_c1I (pc := 184) (As := [.int (nI (ly_n xs (i + 1)))]) (rest := []) F (ct_X1_drop _ G1 σ (ly_n xs (i + 1)) (ly_lt xs (i + 1))) (cwV 1 F.2.2.2.2.1 (lw_V q183 q184 q185 q26 q186) rfl rfl rfl (by decide +kernel) ⟨Nat.le_of_ble_eq_true rfl, Nat.le_of_ble_eq_true rfl⟩) rfl rfl (Nat.le_of_ble_eq_true rfl) dL_law_184 ?_
  refine hx_aload_n (pc := 187) F dL_law_187 rfl 2 rfl ?_
  refine hx_aload_n (pc := 188) F dL_law_188 rfl 0 rfl ?_
  refine hx_iload_n (pc := 189) F dL_law_189 rfl 3 rfl ?_
  refine hx_iconst (pc := 190) F dL_law_190 kc_i1 ?_
  refine hx_iadd (pc := 191) F dL_law_191 ?_
  refine hy_ld (pc := 192) F hX hbl hbA (by omega) (by omega) dL_law_192 ?_
  refine hy_c2I (pc := 193) (As := [.int (nI (ly_n xs (i + 1)))]) (rest := [.int _]) F hG (ct_X2_drop _ G2 τ (ly_n xs (i + 1)) (ly_lt xs (i + 1))) (cwV 1 F.2.2.2.2.1 (lw_V q284 q285 q286 q27 q287) rfl rfl rfl (by decide +kernel) ⟨Nat.le_of_ble_eq_true rfl, Nat.le_of_ble_eq_true rfl⟩) rfl rfl (Nat.le_of_ble_eq_true rfl) dL_law_193 ?_
  refine hx_icmp_eqR (pc := 196) (tgt := 492) F dL_law_196 (by decide) (fun _ => ?_) (fun h => absurd (congrArg nI (rfl)) h)
  exact K _ _ (sim_drop S (ly_n xs (i + 1)))
set_option maxHeartbeats 4000000 in
theorem lc_3 {X : hx_X} {G1 G2 : hx_G} {b L i : Nat} {xs : Nat → Int32} {σ τ : hs_S} (F : hx_F X mL (V12 G1 G2)) (hG : G2.1 = G1.1) (hX : va_X b L xs (hx_s X) (hx_s X).heap) (hbl : b < (hx_s X).heap.size) (hbA : ¬ hx_A X b) (hL : L ≤ 257) (hi : i + 3 < L) (S : SIM σ τ) (K : ∀ σ' τ', SIM σ' τ' → hx_W X mL (V12 G1 G2) (σ', τ') 492 [(0, .ref b), (1, .ref (hg_h G1)), (2, .ref (hg_h G2)), (3, .int (nI i))] []) : hx_W X mL (V12 G1 G2) (σ, τ) 201 [(0, .ref b), (1, .ref (hg_h G1)), (2, .ref (hg_h G2)), (3, .int (nI i))] [] := by
  refine hx_aload_n (pc := 201) F dL_law_201 rfl 1 rfl ?_
  refine hx_aload_n (pc := 202) F dL_law_202 rfl 0 rfl ?_
  refine hx_iload_n (pc := 203) F dL_law_203 rfl 3 rfl ?_
  refine hx_iconst (pc := 204) F dL_law_204 kc_i1 ?_
  refine hx_iadd (pc := 205) F dL_law_205 ?_
  refine hy_ld (pc := 206) F hX hbl hbA (by omega) (by omega) dL_law_206 ?_
  refine hx_aload_n (pc := 207) F dL_law_207 rfl 0 rfl ?_
  refine hx_iload_n (pc := 208) F dL_law_208 rfl 3 rfl ?_
  refine hx_iconst (pc := 209) F dL_law_209 kc_i2 ?_
  refine hx_iadd (pc := 210) F dL_law_210 ?_
  refine hy_ld (pc := 211) F hX hbl hbA (by omega) (by omega) dL_law_211 ?_
  refine hx_aload_n (pc := 212) F dL_law_212 rfl 0 rfl ?_
  refine hx_iload_n (pc := 213) F dL_law_213 rfl 3 rfl ?_
  refine hx_iconst (pc := 214) F dL_law_214 kc_i3 ?_
  refine hx_iadd (pc := 215) F dL_law_215 ?_
  refine hy_ld (pc := 216) F hX hbl hbA (by omega) (by omega) dL_law_216 ?_
  refine hy_c1I (pc := 217) (As := [.int (nI (ly_n xs (i + 1))), .int (nI (ly_n xs (i + 2))), .int (nI (ly_n xs (i + 3)))]) (rest := []) F (ct_X1_load _ G1 σ (ly_n xs (i + 1)) (ly_n xs (i + 2)) (ly_n xs (i + 3)) ⟨ly_lt xs (i + 1), ly_lt xs (i + 2), ly_lt xs (i + 3), ck_ref_of S.1⟩) (cwV 3 F.2.2.2.2.1 (lw_V q187 q188 q189 q26 q190) rfl rfl rfl (by decide +kernel) ⟨Nat.le_of_ble_eq_true rfl, Nat.le_of_ble_eq_true rfl⟩) rfl rfl (Nat.le_of_ble_eq_true rfl) dL_law_217 ?_
  refine hx_aload_n (pc := 220) F dL_law_220 rfl 2 rfl ?_
  refine hx_aload_n (pc := 221) F dL_law_221 rfl 0 rfl ?_
  refine hx_iload_n (pc := 222) F dL_law_222 rfl 3 rfl ?_
  refine hx_iconst (pc := 223) F dL_law_223 kc_i1 ?_
  refine hx_iadd (pc := 224) F dL_law_224 ?_
  refine hy_ld (pc := 225) F hX hbl hbA (by omega) (by omega) dL_law_225 ?_
  refine hx_aload_n (pc := 226) F dL_law_226 rfl 0 rfl ?_
  refine hx_iload_n (pc := 227) F dL_law_227 rfl 3 rfl ?_
  refine hx_iconst (pc := 228) F dL_law_228 kc_i2 ?_
  refine hx_iadd (pc := 229) F dL_law_229 ?_
  refine hy_ld (pc := 230) F hX hbl hbA (by omega) (by omega) dL_law_230 ?_
  refine hx_aload_n (pc := 231) F dL_law_231 rfl 0 rfl ?_
  refine hx_iload_n (pc := 232) F dL_law_232 rfl 3 rfl ?_
  refine hx_iconst (pc := 233) F dL_law_233 kc_i3 ?_
  refine hx_iadd (pc := 234) F dL_law_234 ?_
  refine hy_ld (pc := 235) F hX hbl hbA (by omega) (by omega) dL_law_235 ?_
  refine hy_c2I (pc := 236) (As := [.int (nI (ly_n xs (i + 1))), .int (nI (ly_n xs (i + 2))), .int (nI (ly_n xs (i + 3)))]) (rest := [.int _]) F hG (ct_X2_load _ G2 τ (ly_n xs (i + 1)) (ly_n xs (i + 2)) (ly_n xs (i + 3)) ⟨ly_lt xs (i + 1), ly_lt xs (i + 2), ly_lt xs (i + 3), mk_ref_of S.2.1⟩) (cwV 3 F.2.2.2.2.1 (lw_V q288 q289 q290 q27 q291) rfl rfl rfl (by decide +kernel) ⟨Nat.le_of_ble_eq_true rfl, Nat.le_of_ble_eq_true rfl⟩) rfl rfl (Nat.le_of_ble_eq_true rfl) dL_law_236 ?_
  refine hx_icmp_eqR (pc := 239) (tgt := 492) F dL_law_239 (by decide) (fun _ => ?_) (fun h => absurd (congrArg nI (sim_ref S (ly_n xs (i + 1)) (ly_n xs (i + 2)) (ly_n xs (i + 3)))) h)
  exact K _ _ (sim_load S (ly_n xs (i + 1)) (ly_n xs (i + 2)) (ly_n xs (i + 3)))
set_option maxHeartbeats 4000000 in
theorem lc_4 {X : hx_X} {G1 G2 : hx_G} {b L i : Nat} {xs : Nat → Int32} {σ τ : hs_S} (F : hx_F X mL (V12 G1 G2)) (hG : G2.1 = G1.1) (hX : va_X b L xs (hx_s X) (hx_s X).heap) (hbl : b < (hx_s X).heap.size) (hbA : ¬ hx_A X b) (hL : L ≤ 257) (hi : i + 3 < L) (S : SIM σ τ) (K : ∀ σ' τ', SIM σ' τ' → hx_W X mL (V12 G1 G2) (σ', τ') 492 [(0, .ref b), (1, .ref (hg_h G1)), (2, .ref (hg_h G2)), (3, .int (nI i))] []) : hx_W X mL (V12 G1 G2) (σ, τ) 244 [(0, .ref b), (1, .ref (hg_h G1)), (2, .ref (hg_h G2)), (3, .int (nI i))] [] := by
  refine hx_aload_n (pc := 244) F dL_law_244 rfl 1 rfl ?_
  refine hx_aload_n (pc := 245) F dL_law_245 rfl 0 rfl ?_
  refine hx_iload_n (pc := 246) F dL_law_246 rfl 3 rfl ?_
  refine hx_iconst (pc := 247) F dL_law_247 kc_i1 ?_
  refine hx_iadd (pc := 248) F dL_law_248 ?_
  refine hy_ld (pc := 249) F hX hbl hbA (by omega) (by omega) dL_law_249 ?_
  refine hx_aload_n (pc := 250) F dL_law_250 rfl 0 rfl ?_
  refine hx_iload_n (pc := 251) F dL_law_251 rfl 3 rfl ?_
  refine hx_iconst (pc := 252) F dL_law_252 kc_i2 ?_
  refine hx_iadd (pc := 253) F dL_law_253 ?_
  refine hy_ld (pc := 254) F hX hbl hbA (by omega) (by omega) dL_law_254 ?_
  refine hx_aload_n (pc := 255) F dL_law_255 rfl 0 rfl ?_
  refine hx_iload_n (pc := 256) F dL_law_256 rfl 3 rfl ?_
  refine hx_iconst (pc := 257) F dL_law_257 kc_i3 ?_
  refine hx_iadd (pc := 258) F dL_law_258 ?_
  refine hy_ld (pc := 259) F hX hbl hbA (by omega) (by omega) dL_law_259 ?_
  refine hy_c1I (pc := 260) (As := [.int (nI (ly_n xs (i + 1))), .int (nI (ly_n xs (i + 2))), .int (nI (ly_n xs (i + 3)))]) (rest := []) F (ct_X1_store _ G1 σ (ly_n xs (i + 1)) (ly_n xs (i + 2)) (ly_n xs (i + 3)) ⟨ly_lt xs (i + 1), ly_lt xs (i + 2), ly_lt xs (i + 3), ck_ref_of S.1⟩) (cwV 3 F.2.2.2.2.1 (lw_V q194 q195 q196 q26 q197) rfl rfl rfl (by decide +kernel) ⟨Nat.le_of_ble_eq_true rfl, Nat.le_of_ble_eq_true rfl⟩) rfl rfl (Nat.le_of_ble_eq_true rfl) dL_law_260 ?_
  refine hx_aload_n (pc := 263) F dL_law_263 rfl 2 rfl ?_
  refine hx_aload_n (pc := 264) F dL_law_264 rfl 0 rfl ?_
  refine hx_iload_n (pc := 265) F dL_law_265 rfl 3 rfl ?_
  refine hx_iconst (pc := 266) F dL_law_266 kc_i1 ?_
  refine hx_iadd (pc := 267) F dL_law_267 ?_
  refine hy_ld (pc := 268) F hX hbl hbA (by omega) (by omega) dL_law_268 ?_
  refine hx_aload_n (pc := 269) F dL_law_269 rfl 0 rfl ?_
  refine hx_iload_n (pc := 270) F dL_law_270 rfl 3 rfl ?_
  refine hx_iconst (pc := 271) F dL_law_271 kc_i2 ?_
  refine hx_iadd (pc := 272) F dL_law_272 ?_
  refine hy_ld (pc := 273) F hX hbl hbA (by omega) (by omega) dL_law_273 ?_
  refine hx_aload_n (pc := 274) F dL_law_274 rfl 0 rfl ?_
  refine hx_iload_n (pc := 275) F dL_law_275 rfl 3 rfl ?_
  refine hx_iconst (pc := 276) F dL_law_276 kc_i3 ?_
  refine hx_iadd (pc := 277) F dL_law_277 ?_
  refine hy_ld (pc := 278) F hX hbl hbA (by omega) (by omega) dL_law_278 ?_
  refine hy_c2I (pc := 279) (As := [.int (nI (ly_n xs (i + 1))), .int (nI (ly_n xs (i + 2))), .int (nI (ly_n xs (i + 3)))]) (rest := [.int _]) F hG (ct_X2_store _ G2 τ (ly_n xs (i + 1)) (ly_n xs (i + 2)) (ly_n xs (i + 3)) ⟨ly_lt xs (i + 1), ly_lt xs (i + 2), ly_lt xs (i + 3), mk_ref_of S.2.1⟩) (cwV 3 F.2.2.2.2.1 (lw_V q296 q297 q298 q27 q299) rfl rfl rfl (by decide +kernel) ⟨Nat.le_of_ble_eq_true rfl, Nat.le_of_ble_eq_true rfl⟩) rfl rfl (Nat.le_of_ble_eq_true rfl) dL_law_279 ?_
  refine hx_icmp_eqR (pc := 282) (tgt := 492) F dL_law_282 (by decide) (fun _ => ?_) (fun h => absurd (congrArg nI (sim_ref S (ly_n xs (i + 1)) (ly_n xs (i + 2)) (ly_n xs (i + 3)))) h)
  exact K _ _ (sim_store S (ly_n xs (i + 1)) (ly_n xs (i + 2)) (ly_n xs (i + 3)))
set_option maxHeartbeats 4000000 in
theorem lc_5 {X : hx_X} {G1 G2 : hx_G} {b L i : Nat} {xs : Nat → Int32} {σ τ : hs_S} (F : hx_F X mL (V12 G1 G2)) (hG : G2.1 = G1.1) (hX : va_X b L xs (hx_s X) (hx_s X).heap) (hbl : b < (hx_s X).heap.size) (hbA : ¬ hx_A X b) (hL : L ≤ 257) (hi : i + 3 < L) (S : SIM σ τ) (K : ∀ σ' τ', SIM σ' τ' → hx_W X mL (V12 G1 G2) (σ', τ') 492 [(0, .ref b), (1, .ref (hg_h G1)), (2, .ref (hg_h G2)), (3, .int (nI i))] []) : hx_W X mL (V12 G1 G2) (σ, τ) 287 [(0, .ref b), (1, .ref (hg_h G1)), (2, .ref (hg_h G2)), (3, .int (nI i))] [] := by
  obtain ⟨kS, ke⟩ := sim_setp S (ly_n xs (i + 1)) (ly_n xs (i + 2))
  refine hx_aload_n (pc := 287) F dL_law_287 rfl 1 rfl ?_
  refine hx_aload_n (pc := 288) F dL_law_288 rfl 0 rfl ?_
  refine hx_iload_n (pc := 289) F dL_law_289 rfl 3 rfl ?_
  refine hx_iconst (pc := 290) F dL_law_290 kc_i1 ?_
  refine hx_iadd (pc := 291) F dL_law_291 ?_
  refine hy_ld (pc := 292) F hX hbl hbA (by omega) (by omega) dL_law_292 ?_
  refine hx_aload_n (pc := 293) F dL_law_293 rfl 0 rfl ?_
  refine hx_iload_n (pc := 294) F dL_law_294 rfl 3 rfl ?_
  refine hx_iconst (pc := 295) F dL_law_295 kc_i2 ?_
  refine hx_iadd (pc := 296) F dL_law_296 ?_
  refine hy_ld (pc := 297) F hX hbl hbA (by omega) (by omega) dL_law_297 ?_
  refine hy_c1I (pc := 298) (As := [.int (nI (ly_n xs (i + 1))), .int (nI (ly_n xs (i + 2)))]) (rest := []) F (ct_X1_setPayload _ G1 σ (ly_n xs (i + 1)) (ly_n xs (i + 2)) ⟨ly_lt xs (i + 1), ck_ref_of S.1⟩) (cwV 2 F.2.2.2.2.1 (lw_V q198 q199 q200 q26 q201) rfl rfl rfl (by decide +kernel) ⟨Nat.le_of_ble_eq_true rfl, Nat.le_of_ble_eq_true rfl⟩) rfl rfl (Nat.le_of_ble_eq_true rfl) dL_law_298 ?_
  refine hx_aload_n (pc := 301) F dL_law_301 rfl 2 rfl ?_
  refine hx_aload_n (pc := 302) F dL_law_302 rfl 0 rfl ?_
  refine hx_iload_n (pc := 303) F dL_law_303 rfl 3 rfl ?_
  refine hx_iconst (pc := 304) F dL_law_304 kc_i1 ?_
  refine hx_iadd (pc := 305) F dL_law_305 ?_
  refine hy_ld (pc := 306) F hX hbl hbA (by omega) (by omega) dL_law_306 ?_
  refine hx_aload_n (pc := 307) F dL_law_307 rfl 0 rfl ?_
  refine hx_iload_n (pc := 308) F dL_law_308 rfl 3 rfl ?_
  refine hx_iconst (pc := 309) F dL_law_309 kc_i2 ?_
  refine hx_iadd (pc := 310) F dL_law_310 ?_
  refine hy_ld (pc := 311) F hX hbl hbA (by omega) (by omega) dL_law_311 ?_
  refine hy_c2I (pc := 312) (As := [.int (nI (ly_n xs (i + 1))), .int (nI (ly_n xs (i + 2)))]) (rest := [.int _]) F hG (ct_X2_setPayload _ G2 τ (ly_n xs (i + 1)) (ly_n xs (i + 2)) ⟨ly_lt xs (i + 1), mk_ref_of S.2.1⟩) (cwV 2 F.2.2.2.2.1 (lw_V q300 q301 q302 q27 q303) rfl rfl rfl (by decide +kernel) ⟨Nat.le_of_ble_eq_true rfl, Nat.le_of_ble_eq_true rfl⟩) rfl rfl (Nat.le_of_ble_eq_true rfl) dL_law_312 ?_
  refine hx_icmp_eqR (pc := 315) (tgt := 492) F dL_law_315 (by decide) (fun _ => ?_) (fun h => absurd (congrArg nI (ke)) h)
  exact K _ _ kS
set_option maxHeartbeats 4000000 in
theorem lc_6 {X : hx_X} {G1 G2 : hx_G} {b L i : Nat} {xs : Nat → Int32} {σ τ : hs_S} (F : hx_F X mL (V12 G1 G2)) (hG : G2.1 = G1.1) (hX : va_X b L xs (hx_s X) (hx_s X).heap) (hbl : b < (hx_s X).heap.size) (hbA : ¬ hx_A X b) (hL : L ≤ 257) (hi : i + 3 < L) (S : SIM σ τ) (K : ∀ σ' τ', SIM σ' τ' → hx_W X mL (V12 G1 G2) (σ', τ') 492 [(0, .ref b), (1, .ref (hg_h G1)), (2, .ref (hg_h G2)), (3, .int (nI i))] []) : hx_W X mL (V12 G1 G2) (σ, τ) 320 [(0, .ref b), (1, .ref (hg_h G1)), (2, .ref (hg_h G2)), (3, .int (nI i))] [] := by
  obtain ⟨k1, kS⟩ := sim_collect S
  refine hx_aload_n (pc := 320) F dL_law_320 rfl 1 rfl ?_
  refine hy_c1V (pc := 321) (As := []) (rest := []) F (ct_X1_collect _ G1 σ  k1) (cwV 0 F.2.2.2.2.1 (lw_V q202 q203 q204 q26 q205) rfl rfl rfl (by decide +kernel) ⟨Nat.le_of_ble_eq_true rfl, Nat.le_of_ble_eq_true rfl⟩) rfl rfl (Nat.le_of_ble_eq_true rfl) dL_law_321 ?_
  refine hx_aload_n (pc := 324) F dL_law_324 rfl 2 rfl ?_
  refine hy_c2V (pc := 325) (As := []) (rest := []) F hG (ct_X2_collect _ G2 τ  trivial) (cwV 0 F.2.2.2.2.1 (lw_V q304 q305 q306 q27 q307) rfl rfl rfl (by decide +kernel) ⟨Nat.le_of_ble_eq_true rfl, Nat.le_of_ble_eq_true rfl⟩) rfl rfl (Nat.le_of_ble_eq_true rfl) dL_law_325 ?_
  refine hx_goto (pc := 328) (tgt := 492) F dL_law_328 (by decide) ?_
  exact K _ _ kS
set_option maxHeartbeats 4000000 in
theorem lc_7 {X : hx_X} {G1 G2 : hx_G} {b L i : Nat} {xs : Nat → Int32} {σ τ : hs_S} (F : hx_F X mL (V12 G1 G2)) (hG : G2.1 = G1.1) (hX : va_X b L xs (hx_s X) (hx_s X).heap) (hbl : b < (hx_s X).heap.size) (hbA : ¬ hx_A X b) (hL : L ≤ 257) (hi : i + 3 < L) (S : SIM σ τ) (K : ∀ σ' τ', SIM σ' τ' → hx_W X mL (V12 G1 G2) (σ', τ') 492 [(0, .ref b), (1, .ref (hg_h G1)), (2, .ref (hg_h G2)), (3, .int (nI i))] []) : hx_W X mL (V12 G1 G2) (σ, τ) 331 [(0, .ref b), (1, .ref (hg_h G1)), (2, .ref (hg_h G2)), (3, .int (nI i))] [] := by
  refine hx_aload_n (pc := 331) F dL_law_331 rfl 1 rfl ?_
  refine hx_aload_n (pc := 332) F dL_law_332 rfl 0 rfl ?_
  refine hx_iload_n (pc := 333) F dL_law_333 rfl 3 rfl ?_
  refine hx_iconst (pc := 334) F dL_law_334 kc_i1 ?_
  refine hx_iadd (pc := 335) F dL_law_335 ?_
  refine hy_ld (pc := 336) F hX hbl hbA (by omega) (by omega) dL_law_336 ?_
  refine hy_c1I (pc := 337) (As := [.int (nI (ly_n xs (i + 1)))]) (rest := []) F (ct_X1_payload _ G1 σ (ly_n xs (i + 1)) ⟨ly_lt xs (i + 1), ck_ref_of S.1⟩) (cwV 1 F.2.2.2.2.1 (lw_V q206 q207 q208 q26 q209) rfl rfl rfl (by decide +kernel) ⟨Nat.le_of_ble_eq_true rfl, Nat.le_of_ble_eq_true rfl⟩) rfl rfl (Nat.le_of_ble_eq_true rfl) dL_law_337 ?_
  refine hx_aload_n (pc := 340) F dL_law_340 rfl 2 rfl ?_
  refine hx_aload_n (pc := 341) F dL_law_341 rfl 0 rfl ?_
  refine hx_iload_n (pc := 342) F dL_law_342 rfl 3 rfl ?_
  refine hx_iconst (pc := 343) F dL_law_343 kc_i1 ?_
  refine hx_iadd (pc := 344) F dL_law_344 ?_
  refine hy_ld (pc := 345) F hX hbl hbA (by omega) (by omega) dL_law_345 ?_
  refine hy_c2I (pc := 346) (As := [.int (nI (ly_n xs (i + 1)))]) (rest := [.int _]) F hG (ct_X2_payload _ G2 τ (ly_n xs (i + 1)) ⟨ly_lt xs (i + 1), mk_ref_of S.2.1⟩) (cwV 1 F.2.2.2.2.1 (lw_V q308 q309 q310 q27 q311) rfl rfl rfl (by decide +kernel) ⟨Nat.le_of_ble_eq_true rfl, Nat.le_of_ble_eq_true rfl⟩) rfl rfl (Nat.le_of_ble_eq_true rfl) dL_law_346 ?_
  refine hx_icmp_eqR (pc := 349) (tgt := 492) F dL_law_349 (by decide) (fun _ => ?_) (fun h => absurd (congrArg nI (sim_pay S (ly_n xs (i + 1)))) h)
  exact K _ _ S
set_option maxHeartbeats 4000000 in
theorem lc_8 {X : hx_X} {G1 G2 : hx_G} {b L i : Nat} {xs : Nat → Int32} {σ τ : hs_S} (F : hx_F X mL (V12 G1 G2)) (hG : G2.1 = G1.1) (hX : va_X b L xs (hx_s X) (hx_s X).heap) (hbl : b < (hx_s X).heap.size) (hbA : ¬ hx_A X b) (hL : L ≤ 257) (hi : i + 3 < L) (S : SIM σ τ) (K : ∀ σ' τ', SIM σ' τ' → hx_W X mL (V12 G1 G2) (σ', τ') 492 [(0, .ref b), (1, .ref (hg_h G1)), (2, .ref (hg_h G2)), (3, .int (nI i))] []) : hx_W X mL (V12 G1 G2) (σ, τ) 354 [(0, .ref b), (1, .ref (hg_h G1)), (2, .ref (hg_h G2)), (3, .int (nI i))] [] := by
  refine hx_aload_n (pc := 354) F dL_law_354 rfl 1 rfl ?_
  refine hx_aload_n (pc := 355) F dL_law_355 rfl 0 rfl ?_
  refine hx_iload_n (pc := 356) F dL_law_356 rfl 3 rfl ?_
  refine hx_iconst (pc := 357) F dL_law_357 kc_i1 ?_
  refine hx_iadd (pc := 358) F dL_law_358 ?_
  refine hy_ld (pc := 359) F hX hbl hbA (by omega) (by omega) dL_law_359 ?_
  refine hy_c1I (pc := 360) (As := [.int (nI (ly_n xs (i + 1)))]) (rest := []) F (ct_X1_held _ G1 σ (ly_n xs (i + 1)) ⟨ly_lt xs (i + 1), ck_ref_of S.1⟩) (cwV 1 F.2.2.2.2.1 (lw_V q214 q215 q216 q26 q217) rfl rfl rfl (by decide +kernel) ⟨Nat.le_of_ble_eq_true rfl, Nat.le_of_ble_eq_true rfl⟩) rfl rfl (Nat.le_of_ble_eq_true rfl) dL_law_360 ?_
  refine hx_aload_n (pc := 363) F dL_law_363 rfl 2 rfl ?_
  refine hx_aload_n (pc := 364) F dL_law_364 rfl 0 rfl ?_
  refine hx_iload_n (pc := 365) F dL_law_365 rfl 3 rfl ?_
  refine hx_iconst (pc := 366) F dL_law_366 kc_i1 ?_
  refine hx_iadd (pc := 367) F dL_law_367 ?_
  refine hy_ld (pc := 368) F hX hbl hbA (by omega) (by omega) dL_law_368 ?_
  refine hy_c2I (pc := 369) (As := [.int (nI (ly_n xs (i + 1)))]) (rest := [.int _]) F hG (ct_X2_held _ G2 τ (ly_n xs (i + 1)) ⟨ly_lt xs (i + 1), mk_ref_of S.2.1⟩) (cwV 1 F.2.2.2.2.1 (lw_V q316 q317 q318 q27 q319) rfl rfl rfl (by decide +kernel) ⟨Nat.le_of_ble_eq_true rfl, Nat.le_of_ble_eq_true rfl⟩) rfl rfl (Nat.le_of_ble_eq_true rfl) dL_law_369 ?_
  refine hx_icmp_eqR (pc := 372) (tgt := 492) F dL_law_372 (by decide) (fun _ => ?_) (fun h => absurd (congrArg nI (sim_held S (ly_n xs (i + 1)))) h)
  exact K _ _ S
set_option maxHeartbeats 4000000 in
theorem lc_9 {X : hx_X} {G1 G2 : hx_G} {b L i : Nat} {xs : Nat → Int32} {σ τ : hs_S} (F : hx_F X mL (V12 G1 G2)) (hG : G2.1 = G1.1) (hX : va_X b L xs (hx_s X) (hx_s X).heap) (hbl : b < (hx_s X).heap.size) (hbA : ¬ hx_A X b) (hL : L ≤ 257) (hi : i + 3 < L) (S : SIM σ τ) (K : ∀ σ' τ', SIM σ' τ' → hx_W X mL (V12 G1 G2) (σ', τ') 492 [(0, .ref b), (1, .ref (hg_h G1)), (2, .ref (hg_h G2)), (3, .int (nI i))] []) : hx_W X mL (V12 G1 G2) (σ, τ) 377 [(0, .ref b), (1, .ref (hg_h G1)), (2, .ref (hg_h G2)), (3, .int (nI i))] [] := by
  refine hx_aload_n (pc := 377) F dL_law_377 rfl 1 rfl ?_
  refine hx_aload_n (pc := 378) F dL_law_378 rfl 0 rfl ?_
  refine hx_iload_n (pc := 379) F dL_law_379 rfl 3 rfl ?_
  refine hx_iconst (pc := 380) F dL_law_380 kc_i1 ?_
  refine hx_iadd (pc := 381) F dL_law_381 ?_
  refine hy_ld (pc := 382) F hX hbl hbA (by omega) (by omega) dL_law_382 ?_
  refine hx_aload_n (pc := 383) F dL_law_383 rfl 0 rfl ?_
  refine hx_iload_n (pc := 384) F dL_law_384 rfl 3 rfl ?_
  refine hx_iconst (pc := 385) F dL_law_385 kc_i2 ?_
  refine hx_iadd (pc := 386) F dL_law_386 ?_
  refine hy_ld (pc := 387) F hX hbl hbA (by omega) (by omega) dL_law_387 ?_
  refine hy_c1I (pc := 388) (As := [.int (nI (ly_n xs (i + 1))), .int (nI (ly_n xs (i + 2)))]) (rest := []) F (ct_X1_same _ G1 σ (ly_n xs (i + 1)) (ly_n xs (i + 2)) ⟨ly_lt xs (i + 1), ly_lt xs (i + 2), ck_ref_of S.1⟩) (cwV 2 F.2.2.2.2.1 (lw_V q218 q219 q220 q26 q221) rfl rfl rfl (by decide +kernel) ⟨Nat.le_of_ble_eq_true rfl, Nat.le_of_ble_eq_true rfl⟩) rfl rfl (Nat.le_of_ble_eq_true rfl) dL_law_388 ?_
  refine hx_aload_n (pc := 391) F dL_law_391 rfl 2 rfl ?_
  refine hx_aload_n (pc := 392) F dL_law_392 rfl 0 rfl ?_
  refine hx_iload_n (pc := 393) F dL_law_393 rfl 3 rfl ?_
  refine hx_iconst (pc := 394) F dL_law_394 kc_i1 ?_
  refine hx_iadd (pc := 395) F dL_law_395 ?_
  refine hy_ld (pc := 396) F hX hbl hbA (by omega) (by omega) dL_law_396 ?_
  refine hx_aload_n (pc := 397) F dL_law_397 rfl 0 rfl ?_
  refine hx_iload_n (pc := 398) F dL_law_398 rfl 3 rfl ?_
  refine hx_iconst (pc := 399) F dL_law_399 kc_i2 ?_
  refine hx_iadd (pc := 400) F dL_law_400 ?_
  refine hy_ld (pc := 401) F hX hbl hbA (by omega) (by omega) dL_law_401 ?_
  refine hy_c2I (pc := 402) (As := [.int (nI (ly_n xs (i + 1))), .int (nI (ly_n xs (i + 2)))]) (rest := [.int _]) F hG (ct_X2_same _ G2 τ (ly_n xs (i + 1)) (ly_n xs (i + 2)) ⟨ly_lt xs (i + 1), ly_lt xs (i + 2), mk_ref_of S.2.1⟩) (cwV 2 F.2.2.2.2.1 (lw_V q320 q321 q322 q27 q323) rfl rfl rfl (by decide +kernel) ⟨Nat.le_of_ble_eq_true rfl, Nat.le_of_ble_eq_true rfl⟩) rfl rfl (Nat.le_of_ble_eq_true rfl) dL_law_402 ?_
  refine hx_icmp_eqR (pc := 405) (tgt := 492) F dL_law_405 (by decide) (fun _ => ?_) (fun h => absurd (congrArg nI (sim_same S (ly_n xs (i + 1)) (ly_n xs (i + 2)))) h)
  exact K _ _ S
set_option maxHeartbeats 4000000 in
theorem lc_10 {X : hx_X} {G1 G2 : hx_G} {b L i : Nat} {xs : Nat → Int32} {σ τ : hs_S} (F : hx_F X mL (V12 G1 G2)) (hG : G2.1 = G1.1) (hX : va_X b L xs (hx_s X) (hx_s X).heap) (hbl : b < (hx_s X).heap.size) (hbA : ¬ hx_A X b) (hL : L ≤ 257) (hi : i + 3 < L) (S : SIM σ τ) (K : ∀ σ' τ', SIM σ' τ' → hx_W X mL (V12 G1 G2) (σ', τ') 492 [(0, .ref b), (1, .ref (hg_h G1)), (2, .ref (hg_h G2)), (3, .int (nI i))] []) : hx_W X mL (V12 G1 G2) (σ, τ) 410 [(0, .ref b), (1, .ref (hg_h G1)), (2, .ref (hg_h G2)), (3, .int (nI i))] [] := by
  obtain ⟨k1, k2, ke, kS⟩ := sim_reach S
  refine hx_aload_n (pc := 410) F dL_law_410 rfl 1 rfl ?_
  refine hy_c1I (pc := 411) (As := []) (rest := []) F (ct_X1_reachable _ G1 σ  k1) (cwV 0 F.2.2.2.2.1 (lw_V q222 q223 q224 q26 q225) rfl rfl rfl (by decide +kernel) ⟨Nat.le_of_ble_eq_true rfl, Nat.le_of_ble_eq_true rfl⟩) rfl rfl (Nat.le_of_ble_eq_true rfl) dL_law_411 ?_
  refine hx_aload_n (pc := 414) F dL_law_414 rfl 2 rfl ?_
  refine hy_c2I (pc := 415) (As := []) (rest := [.int _]) F hG (ct_X2_reachable _ G2 τ  k2) (cwV 0 F.2.2.2.2.1 (lw_V q325 q269 q270 q27 q271) rfl rfl rfl (by decide +kernel) ⟨Nat.le_of_ble_eq_true rfl, Nat.le_of_ble_eq_true rfl⟩) rfl rfl (Nat.le_of_ble_eq_true rfl) dL_law_415 ?_
  refine hx_icmp_eqR (pc := 418) (tgt := 492) F dL_law_418 (by decide) (fun _ => ?_) (fun h => absurd (congrArg nI (ke)) h)
  exact K _ _ kS
set_option maxHeartbeats 4000000 in
theorem lc_11 {X : hx_X} {G1 G2 : hx_G} {b L i : Nat} {xs : Nat → Int32} {σ τ : hs_S} (F : hx_F X mL (V12 G1 G2)) (hG : G2.1 = G1.1) (hX : va_X b L xs (hx_s X) (hx_s X).heap) (hbl : b < (hx_s X).heap.size) (hbA : ¬ hx_A X b) (hL : L ≤ 257) (hi : i + 3 < L) (S : SIM σ τ) (K : ∀ σ' τ', SIM σ' τ' → hx_W X mL (V12 G1 G2) (σ', τ') 492 [(0, .ref b), (1, .ref (hg_h G1)), (2, .ref (hg_h G2)), (3, .int (nI i))] []) : hx_W X mL (V12 G1 G2) (σ, τ) 423 [(0, .ref b), (1, .ref (hg_h G1)), (2, .ref (hg_h G2)), (3, .int (nI i))] [] := by
  obtain ⟨k1, k2, ke, kS⟩ := sim_rf S (ly_n xs (i + 1))
  refine hx_aload_n (pc := 423) F dL_law_423 rfl 1 rfl ?_
  refine hx_aload_n (pc := 424) F dL_law_424 rfl 0 rfl ?_
  refine hx_iload_n (pc := 425) F dL_law_425 rfl 3 rfl ?_
  refine hx_iconst (pc := 426) F dL_law_426 kc_i1 ?_
  refine hx_iadd (pc := 427) F dL_law_427 ?_
  refine hy_ld (pc := 428) F hX hbl hbA (by omega) (by omega) dL_law_428 ?_
  refine hy_c1I (pc := 429) (As := [.int (nI (ly_n xs (i + 1)))]) (rest := []) F (ct_X1_reachableFrom _ G1 σ (ly_n xs (i + 1)) ⟨ly_lt xs (i + 1), ck_ref_of S.1, k1⟩) (cwV 1 F.2.2.2.2.1 (lw_V q226 q227 q228 q26 q229) rfl rfl rfl (by decide +kernel) ⟨Nat.le_of_ble_eq_true rfl, Nat.le_of_ble_eq_true rfl⟩) rfl rfl (Nat.le_of_ble_eq_true rfl) dL_law_429 ?_
  refine hx_aload_n (pc := 432) F dL_law_432 rfl 2 rfl ?_
  refine hx_aload_n (pc := 433) F dL_law_433 rfl 0 rfl ?_
  refine hx_iload_n (pc := 434) F dL_law_434 rfl 3 rfl ?_
  refine hx_iconst (pc := 435) F dL_law_435 kc_i1 ?_
  refine hx_iadd (pc := 436) F dL_law_436 ?_
  refine hy_ld (pc := 437) F hX hbl hbA (by omega) (by omega) dL_law_437 ?_
  refine hy_c2I (pc := 438) (As := [.int (nI (ly_n xs (i + 1)))]) (rest := [.int _]) F hG (ct_X2_reachableFrom _ G2 τ (ly_n xs (i + 1)) ⟨ly_lt xs (i + 1), k2⟩) (cwV 1 F.2.2.2.2.1 (lw_V q326 q327 q328 q27 q329) rfl rfl rfl (by decide +kernel) ⟨Nat.le_of_ble_eq_true rfl, Nat.le_of_ble_eq_true rfl⟩) rfl rfl (Nat.le_of_ble_eq_true rfl) dL_law_438 ?_
  refine hx_icmp_eqR (pc := 441) (tgt := 492) F dL_law_441 (by decide) (fun _ => ?_) (fun h => absurd (congrArg nI (ke)) h)
  exact K _ _ kS
set_option maxHeartbeats 4000000 in
theorem lc_12 {X : hx_X} {G1 G2 : hx_G} {b L i : Nat} {xs : Nat → Int32} {σ τ : hs_S} (F : hx_F X mL (V12 G1 G2)) (hG : G2.1 = G1.1) (hX : va_X b L xs (hx_s X) (hx_s X).heap) (hbl : b < (hx_s X).heap.size) (hbA : ¬ hx_A X b) (hL : L ≤ 257) (hi : i + 3 < L) (S : SIM σ τ) (K : ∀ σ' τ', SIM σ' τ' → hx_W X mL (V12 G1 G2) (σ', τ') 492 [(0, .ref b), (1, .ref (hg_h G1)), (2, .ref (hg_h G2)), (3, .int (nI i))] []) : hx_W X mL (V12 G1 G2) (σ, τ) 446 [(0, .ref b), (1, .ref (hg_h G1)), (2, .ref (hg_h G2)), (3, .int (nI i))] [] := by
  obtain ⟨k1, k2, ke, kS⟩ := sim_dist S (ly_n xs (i + 1)) (ly_n xs (i + 2))
  refine hx_aload_n (pc := 446) F dL_law_446 rfl 1 rfl ?_
  refine hx_aload_n (pc := 447) F dL_law_447 rfl 0 rfl ?_
  refine hx_iload_n (pc := 448) F dL_law_448 rfl 3 rfl ?_
  refine hx_iconst (pc := 449) F dL_law_449 kc_i1 ?_
  refine hx_iadd (pc := 450) F dL_law_450 ?_
  refine hy_ld (pc := 451) F hX hbl hbA (by omega) (by omega) dL_law_451 ?_
  refine hx_aload_n (pc := 452) F dL_law_452 rfl 0 rfl ?_
  refine hx_iload_n (pc := 453) F dL_law_453 rfl 3 rfl ?_
  refine hx_iconst (pc := 454) F dL_law_454 kc_i2 ?_
  refine hx_iadd (pc := 455) F dL_law_455 ?_
  refine hy_ld (pc := 456) F hX hbl hbA (by omega) (by omega) dL_law_456 ?_
  refine hy_c1I (pc := 457) (As := [.int (nI (ly_n xs (i + 1))), .int (nI (ly_n xs (i + 2)))]) (rest := []) F (ct_X1_distance _ G1 σ (ly_n xs (i + 1)) (ly_n xs (i + 2)) ⟨ly_lt xs (i + 1), ly_lt xs (i + 2), ck_ref_of S.1, k1⟩) (cwV 2 F.2.2.2.2.1 (lw_V q230 q231 q232 q26 q233) rfl rfl rfl (by decide +kernel) ⟨Nat.le_of_ble_eq_true rfl, Nat.le_of_ble_eq_true rfl⟩) rfl rfl (Nat.le_of_ble_eq_true rfl) dL_law_457 ?_
  refine hx_aload_n (pc := 460) F dL_law_460 rfl 2 rfl ?_
  refine hx_aload_n (pc := 461) F dL_law_461 rfl 0 rfl ?_
  refine hx_iload_n (pc := 462) F dL_law_462 rfl 3 rfl ?_
  refine hx_iconst (pc := 463) F dL_law_463 kc_i1 ?_
  refine hx_iadd (pc := 464) F dL_law_464 ?_
  refine hy_ld (pc := 465) F hX hbl hbA (by omega) (by omega) dL_law_465 ?_
  refine hx_aload_n (pc := 466) F dL_law_466 rfl 0 rfl ?_
  refine hx_iload_n (pc := 467) F dL_law_467 rfl 3 rfl ?_
  refine hx_iconst (pc := 468) F dL_law_468 kc_i2 ?_
  refine hx_iadd (pc := 469) F dL_law_469 ?_
  refine hy_ld (pc := 470) F hX hbl hbA (by omega) (by omega) dL_law_470 ?_
  refine hy_c2I (pc := 471) (As := [.int (nI (ly_n xs (i + 1))), .int (nI (ly_n xs (i + 2)))]) (rest := [.int _]) F hG (ct_X2_distance _ G2 τ (ly_n xs (i + 1)) (ly_n xs (i + 2)) ⟨ly_lt xs (i + 1), ly_lt xs (i + 2), k2⟩) (cwV 2 F.2.2.2.2.1 (lw_V q330 q331 q332 q27 q333) rfl rfl rfl (by decide +kernel) ⟨Nat.le_of_ble_eq_true rfl, Nat.le_of_ble_eq_true rfl⟩) rfl rfl (Nat.le_of_ble_eq_true rfl) dL_law_471 ?_
  refine hx_icmp_eqR (pc := 474) (tgt := 492) F dL_law_474 (by decide) (fun _ => ?_) (fun h => absurd (congrArg nI (ke)) h)
  exact K _ _ kS
set_option maxHeartbeats 4000000 in
theorem lc_13 {X : hx_X} {G1 G2 : hx_G} {b L i : Nat} {xs : Nat → Int32} {σ τ : hs_S} (F : hx_F X mL (V12 G1 G2)) (hG : G2.1 = G1.1) (hX : va_X b L xs (hx_s X) (hx_s X).heap) (hbl : b < (hx_s X).heap.size) (hbA : ¬ hx_A X b) (hL : L ≤ 257) (hi : i + 3 < L) (S : SIM σ τ) (K : ∀ σ' τ', SIM σ' τ' → hx_W X mL (V12 G1 G2) (σ', τ') 492 [(0, .ref b), (1, .ref (hg_h G1)), (2, .ref (hg_h G2)), (3, .int (nI i))] []) : hx_W X mL (V12 G1 G2) (σ, τ) 479 [(0, .ref b), (1, .ref (hg_h G1)), (2, .ref (hg_h G2)), (3, .int (nI i))] [] := by
  obtain ⟨k1, k2, ke, kS⟩ := sim_sum S
  refine hx_aload_n (pc := 479) F dL_law_479 rfl 1 rfl ?_
  refine hy_c1I (pc := 480) (As := []) (rest := []) F (ct_X1_sum _ G1 σ  k1) (cwV 0 F.2.2.2.2.1 (lw_V q234 q235 q236 q26 q237) rfl rfl rfl (by decide +kernel) ⟨Nat.le_of_ble_eq_true rfl, Nat.le_of_ble_eq_true rfl⟩) rfl rfl (Nat.le_of_ble_eq_true rfl) dL_law_480 ?_
  refine hx_aload_n (pc := 483) F dL_law_483 rfl 2 rfl ?_
  refine hy_c2I (pc := 484) (As := []) (rest := [.int _]) F hG (ct_X2_sum _ G2 τ  k2) (cwV 0 F.2.2.2.2.1 (lw_V q334 q335 q336 q27 q337) rfl rfl rfl (by decide +kernel) ⟨Nat.le_of_ble_eq_true rfl, Nat.le_of_ble_eq_true rfl⟩) rfl rfl (Nat.le_of_ble_eq_true rfl) dL_law_484 ?_
  refine hx_icmp_eqR (pc := 487) (tgt := 492) F dL_law_487 (by decide) (fun _ => ?_) (fun h => absurd (congrArg nI (ke)) h)
  exact K _ _ kS
end
section
set_option maxRecDepth 100000
/-! THE CLAIM OUT OF ONE WALK OF THE LAW'S BODY. Your part is whole_start (and what it stands on); all else here is the same for every law, but numbers. -/
def R_law : String := "OlderFirstHeapLaw"
def lw_P (b : Addr) (xs : List Int32) (args : Array Value) (s : State) : Prop := args = #[.ref b] ∧ s.IntsAt b xs ∧ xs.length ≤ 257 ∧ (Jvm.Cond.and given_1 narrow_1).before args s = true
def lw_Q (_ : Array Value) (s : State) (o : Outcome) (t : State) : Prop := o = .returned (some (.int 1)) ∧ Framed s o t [] 600000 7290000
def lw_Z (below : List Frame) (a : Array Value) (s : State) : State → Prop := fun t => ∃ o, t.status = .running ∧ Ended t below o ∧ lw_Q a s o t
/-- the law's own end, with 1 on the stack, nothing written that was there before, its room as the claim has it -/
theorem lw_ret {p : Program} {l : Launch} {e : Env} {s : State} {m : MethodId} {below : List Frame} {meth : Method} {c : Code} {b : Nat} (hx : p.tables.exec = Jvm.exec) (hb : c.code = code) (hr : meth.sig.returnType = ret) (hlocks : meth.locks = false) {pc : Nat} {H : Heap} {ls : Array Slot} (hdg : decode code pc = .ok (.ireturn, 1)) : W p l e room_1 s m #[Value.ref b] below meth c H [] 600000 7290000 (lw_Z below #[Value.ref b] s) (F0 m pc ls [.int 1]) := by
  intro T hT X
  obtain ⟨fs, hret, hrun, hended, hW, hframe⟩ := X.leave (v := some (.int 1)) (hlocks := hlocks) (fun h => by rw [hr] at h; cases h)
  have hmeth' : T.vm.method? m = some meth := X.method'
  refine ⟨T.setFrames fs, ?_, .returned (some (.int 1)), hrun, hended, rfl, ⟨_, rfl⟩, hW, hframe⟩
  jvm_step X.here [X.here.top, hx, hb, hdg, hmeth', hr, ret, narrow_b1]
  (try refine ⟨rfl, ?_⟩); (try refine ⟨rfl, ?_⟩)
  first | (intro acts; rw [hret _ acts rfl rfl rfl]) | rw [hret _ _ rfl rfl rfl]
  exact Steps.refl _
/-- what holds at the law's entry: the machine, the code, the tables' words (any of lw_tbl by 'hts w (by decide +kernel)'), the script of L ints xs at the cell b, what the Statement gives of the start (any of its parts by flat_of_before) -/
def lw_At (p : Program) (s : State) (m : MethodId) (meth : Method) (c : Code) (b L : Nat) (xs : Nat → Int32) : Prop :=
  p.tables.exec = Jvm.exec ∧ c.code = code ∧ meth.sig.returnType = ret ∧ c.maxLocals = 4 ∧ s.vm.findClass R_law = some m.cls ∧ (∀ w ∈ lw_tbl, w.before #[Value.ref b] s = true) ∧ va_X b L xs s s.heap ∧ b < s.heap.size ∧ meth.locks = false ∧ (Jvm.Cond.and given_1 narrow_1).before #[Value.ref b] s = true
end
section
set_option maxRecDepth 100000
set_option maxHeartbeats 4000000 in
/-- cell(script, 0) -/
theorem ci_cell (l : Launch) (b L : Nat) (xs : Nat → Int32) (hL : L ≤ 257) (sz : Nat) : Met l yX0_cell (ws_ yX0_cell cX0_cell 2 (some .int)) { frames := 0, cells := 0, slots := 0, locals := 0 } (va_Pc [.ref b, .int (nI 0)] (fun U => U.heap.size = sz ∧ va_X b L xs U U.heap ∧ b < sz)) (va_Qi (fun (_ : Int32) (_ : Unit) => True) (fun _ _ => True) (fun q => sz ≤ q)) 0 0 (fun q => sz ≤ q) := by
  refine Met.ofW (cc := cX0_cell) (maxL := 2) (ret := some .int) (by decide) rfl ?_
  intro p e s m args below meth c s₁ B hml hv
  obtain ⟨rfl, hsz, hX, hbl⟩ := hv
  have hx := B.exec
  have hb := B.bytes
  have hr := B.returns
  have hlocks := B.notSynchronized
  subst hsz
  have hS : va_S (fun q : Nat => s.heap.size ≤ q) s.heap s.heap [] := va_S.rf
  have hbA : ¬ (fun q : Nat => s.heap.size ≤ q) b := Nat.not_le.mpr hbl
  have hl := lv_entry ([.ref b, .int (nI 0)]) (n := 2) (Nat.le_of_ble_eq_true rfl)
  rw [lg_entry_eq]
  generalize (lg_sl ([.ref b, .int (nI 0)]) ++ List.replicate (2 - (lg_sl ([.ref b, .int (nI 0)])).length) Slot.unset).toArray = ls at hl ⊢
  have hl : lv_has ls 2 [(0, .ref b), (1, .int (nI 0))] := hl
  refine lv_iload_n hx hb dX0_cell_0 rfl (lv_at hl 1 rfl) ?_
  refine lv_aload_n hx hb dX0_cell_1 rfl (lv_at hl 0 rfl) ?_
  refine va_slen hx hb hX hbl hbA hS dX0_cell_2 ?_
  refine lv_icmp_ge (tgt := 12) hx hb dX0_cell_3 (by decide) (fun c1_ => ?_) (fun c1_ => ?_)
  · refine lv_iconst (v := 0) hx hb dX0_cell_12 (by decide) ?_
    exact W.iret (v := 0) hx hb hr (fun t ht hW => ⟨⟨0, (), rfl, trivial, trivial⟩, hS.F ht⟩) hS.2.2 dX0_cell_13
  · have h0 : 0 < L := by
      apply Classical.byContradiction
      intro q
      apply c1_
      have e : L = 0 := by omega
      rw [e]
      exact nI_le (Nat.le_refl 0) (by decide)
    refine lv_aload_n hx hb dX0_cell_6 rfl (lv_at hl 0 rfl) ?_
    refine lv_iload_n hx hb dX0_cell_7 rfl (lv_at hl 1 rfl) ?_
    refine va_sld hx hb hX hbl hbA hS (vp_in_nI h0 (by omega)) dX0_cell_8 ?_
    refine lv_goto (tgt := 13) hx hb dX0_cell_9 (by decide) ?_
    refine lv_topi (fun r er => ?_)
    exact W.iret (v := r) hx hb hr (fun t ht hW => ⟨⟨r, (), rfl, trivial, trivial⟩, hS.F ht⟩) hS.2.2 dX0_cell_13
set_option maxHeartbeats 4000000 in
/-- the law's loop -/
theorem ll_loop {X : hx_X} {G1 G2 : hx_G} {b L : Nat} {xs : Nat → Int32} (F : hx_F X mL (V12 G1 G2)) (hG : G2.1 = G1.1) (hX : va_X b L xs (hx_s X) (hx_s X).heap) (hbl : b < (hx_s X).heap.size) (hbA : ¬ hx_A X b) (hL : L ≤ 257) (h4 : 4 ≤ L) (Kend : ∀ u lv, hx_W X mL (V12 G1 G2) u 498 lv []) : ∀ (n i : Nat) (σ τ : hs_S), L + 1 ≤ i + n → i ≤ L + 4 → SIM σ τ → hx_W X mL (V12 G1 G2) (σ, τ) 28 [(0, .ref b), (1, .ref (hg_h G1)), (2, .ref (hg_h G2)), (3, .int (nI i))] [] := by
  intro n
  induction n with
  | zero =>
    intro i σ τ hn hi S
    refine hx_iload_n (pc := 28) F dL_law_28 rfl 3 rfl ?_
    refine hx_aload_n (pc := 29) F dL_law_29 rfl 0 rfl ?_
    refine hy_len (pc := 30) F hX hbl hbA dL_law_30 ?_
    refine hx_iconst (pc := 31) F dL_law_31 kc_i4 ?_
    refine hx_isub (pc := 32) F h4 dL_law_32 ?_
    refine hx_icmp_gt (pc := 33) (tgt := 498) F (by omega) (by omega) dL_law_33 (by decide) (fun h33 => ?_) (fun h33 => absurd h33 (by omega))
    exact Kend _ _
  | succ n ih =>
    intro i σ τ hn hi S
    have Kc : ∀ σ' τ', SIM σ' τ' → i + 3 < L → hx_W X mL (V12 G1 G2) (σ', τ') 492 [(0, .ref b), (1, .ref (hg_h G1)), (2, .ref (hg_h G2)), (3, .int (nI i))] [] := by
      intro σ' τ' S' hi3
      refine hx_iinc (pc := 492) (lv' := [(0, .ref b), (1, .ref (hg_h G1)), (2, .ref (hg_h G2)), (3, .int (nI (i + 4)))]) F dL_law_492 3 rfl (hx_inc4 _) (by decide) [1, 2, 3, 0] rfl ?_
      refine hx_goto (pc := 495) (tgt := 28) F dL_law_495 (by decide) ?_
      exact ih (i + 4) σ' τ' (by omega) (by omega) S'
    refine hx_iload_n (pc := 28) F dL_law_28 rfl 3 rfl ?_
    refine hx_aload_n (pc := 29) F dL_law_29 rfl 0 rfl ?_
    refine hy_len (pc := 30) F hX hbl hbA dL_law_30 ?_
    refine hx_iconst (pc := 31) F dL_law_31 kc_i4 ?_
    refine hx_isub (pc := 32) F h4 dL_law_32 ?_
    refine hx_icmp_gt (pc := 33) (tgt := 498) F (by omega) (by omega) dL_law_33 (by decide) (fun h33 => ?_) (fun h33 => ?_)
    · exact Kend _ _
    · have hi3 : i + 3 < L := by omega
      refine hx_aload_n (pc := 36) F dL_law_36 rfl 0 rfl ?_
      refine hx_iload_n (pc := 37) F dL_law_37 rfl 3 rfl ?_
      refine hy_ld (pc := 38) F hX hbl hbA (by omega) (by omega) dL_law_38 ?_
      refine hx_bipush (pc := 39) F dL_law_39 kc_b15 ?_
      refine hy_iand (pc := 41) F dL_law_41 ?_
      refine hx_top (nI (ly_n xs i % 16)) (ly_and (ly_lt xs i)) ?_
      have h16 : ly_n xs i % 16 < 16 := Nat.mod_lt _ (by decide)
      generalize ly_n xs i % 16 = k at h16 ⊢
      rcases (show k = 0 ∨ k = 1 ∨ k = 2 ∨ k = 3 ∨ k = 4 ∨ k = 5 ∨ k = 6 ∨ k = 7 ∨ k = 8 ∨ k = 9 ∨ k = 10 ∨ k = 11 ∨ k = 12 ∨ k = 13 ∨ k = 14 ∨ k = 15 by omega) with rfl | rfl | rfl | rfl | rfl | rfl | rfl | rfl | rfl | rfl | rfl | rfl | rfl | rfl | rfl | rfl
      · refine hy_tin (pc := 42) (off := 70) (tgt := 112) F dL_law_42 (by decide +kernel) (by decide +kernel) (by decide +kernel) (by decide) ?_
        exact lc_0 F hG hX hbl hbA hL hi3 S (fun σ' τ' S' => Kc σ' τ' S' hi3)
      · refine hy_tin (pc := 42) (off := 103) (tgt := 145) F dL_law_42 (by decide +kernel) (by decide +kernel) (by decide +kernel) (by decide) ?_
        exact lc_1 F hG hX hbl hbA hL hi3 S (fun σ' τ' S' => Kc σ' τ' S' hi3)
      · refine hy_tin (pc := 42) (off := 136) (tgt := 178) F dL_law_42 (by decide +kernel) (by decide +kernel) (by decide +kernel) (by decide) ?_
        exact lc_2 F hG hX hbl hbA hL hi3 S (fun σ' τ' S' => Kc σ' τ' S' hi3)
      · refine hy_tin (pc := 42) (off := 159) (tgt := 201) F dL_law_42 (by decide +kernel) (by decide +kernel) (by decide +kernel) (by decide) ?_
        exact lc_3 F hG hX hbl hbA hL hi3 S (fun σ' τ' S' => Kc σ' τ' S' hi3)
      · refine hy_tin (pc := 42) (off := 202) (tgt := 244) F dL_law_42 (by decide +kernel) (by decide +kernel) (by decide +kernel) (by decide) ?_
        exact lc_4 F hG hX hbl hbA hL hi3 S (fun σ' τ' S' => Kc σ' τ' S' hi3)
      · refine hy_tin (pc := 42) (off := 245) (tgt := 287) F dL_law_42 (by decide +kernel) (by decide +kernel) (by decide +kernel) (by decide) ?_
        exact lc_5 F hG hX hbl hbA hL hi3 S (fun σ' τ' S' => Kc σ' τ' S' hi3)
      · refine hy_tin (pc := 42) (off := 278) (tgt := 320) F dL_law_42 (by decide +kernel) (by decide +kernel) (by decide +kernel) (by decide) ?_
        exact lc_6 F hG hX hbl hbA hL hi3 S (fun σ' τ' S' => Kc σ' τ' S' hi3)
      · refine hy_tin (pc := 42) (off := 289) (tgt := 331) F dL_law_42 (by decide +kernel) (by decide +kernel) (by decide +kernel) (by decide) ?_
        exact lc_7 F hG hX hbl hbA hL hi3 S (fun σ' τ' S' => Kc σ' τ' S' hi3)
      · refine hy_tin (pc := 42) (off := 312) (tgt := 354) F dL_law_42 (by decide +kernel) (by decide +kernel) (by decide +kernel) (by decide) ?_
        exact lc_8 F hG hX hbl hbA hL hi3 S (fun σ' τ' S' => Kc σ' τ' S' hi3)
      · refine hy_tin (pc := 42) (off := 335) (tgt := 377) F dL_law_42 (by decide +kernel) (by decide +kernel) (by decide +kernel) (by decide) ?_
        exact lc_9 F hG hX hbl hbA hL hi3 S (fun σ' τ' S' => Kc σ' τ' S' hi3)
      · refine hy_tin (pc := 42) (off := 368) (tgt := 410) F dL_law_42 (by decide +kernel) (by decide +kernel) (by decide +kernel) (by decide) ?_
        exact lc_10 F hG hX hbl hbA hL hi3 S (fun σ' τ' S' => Kc σ' τ' S' hi3)
      · refine hy_tin (pc := 42) (off := 381) (tgt := 423) F dL_law_42 (by decide +kernel) (by decide +kernel) (by decide +kernel) (by decide) ?_
        exact lc_11 F hG hX hbl hbA hL hi3 S (fun σ' τ' S' => Kc σ' τ' S' hi3)
      · refine hy_tin (pc := 42) (off := 404) (tgt := 446) F dL_law_42 (by decide +kernel) (by decide +kernel) (by decide +kernel) (by decide) ?_
        exact lc_12 F hG hX hbl hbA hL hi3 S (fun σ' τ' S' => Kc σ' τ' S' hi3)
      · refine hy_tin (pc := 42) (off := 437) (tgt := 479) F dL_law_42 (by decide +kernel) (by decide +kernel) (by decide +kernel) (by decide) ?_
        exact lc_13 F hG hX hbl hbA hL hi3 S (fun σ' τ' S' => Kc σ' τ' S' hi3)
      · refine hy_tout (pc := 42) (tgt := 492) F dL_law_42 (by decide +kernel) (by decide) ?_
        exact Kc σ τ S hi3
      · refine hy_tout (pc := 42) (tgt := 492) F dL_law_42 (by decide +kernel) (by decide) ?_
        exact Kc σ τ S hi3
/-- a script too short for a call -/
theorem ll_short {X : hx_X} {G1 G2 : hx_G} {b L : Nat} {xs : Nat → Int32} (F : hx_F X mL (V12 G1 G2)) (hX : va_X b L xs (hx_s X) (hx_s X).heap) (hbl : b < (hx_s X).heap.size) (hbA : ¬ hx_A X b) (h4 : L < 4) (Kend : ∀ u lv, hx_W X mL (V12 G1 G2) u 498 lv []) (u : hs_S × hs_S) : hx_W X mL (V12 G1 G2) u 28 [(0, .ref b), (1, .ref (hg_h G1)), (2, .ref (hg_h G2)), (3, .int (nI 1))] [] := by
  refine hx_iload_n (pc := 28) F dL_law_28 rfl 3 rfl ?_
  refine hx_aload_n (pc := 29) F dL_law_29 rfl 0 rfl ?_
  refine hy_len (pc := 30) F hX hbl hbA dL_law_30 ?_
  refine hx_iconst (pc := 31) F dL_law_31 kc_i4 ?_
  refine hx_isubR (pc := 32) F dL_law_32 ?_
  refine hx_icmp_gtR (pc := 33) (tgt := 498) F dL_law_33 (by decide) (fun h33 => Kend _ _) (fun h33 => absurd ?_ h33)
  rcases (show L = 0 ∨ L = 1 ∨ L = 2 ∨ L = 3 by omega) with rfl | rfl | rfl | rfl <;> decide +kernel
set_option maxHeartbeats 8000000 in
/-- THE LAW, from its entry -/
theorem whole_start {p : Program} {e : Env} {s : State} {m : MethodId} {below : List Frame} {meth : Method} {c : Code} (l : Launch) {b L : Nat} {xs : Nat → Int32} (hL : L ≤ 257) (C0 : lw_At p s m meth c b L xs) : W p l e room_1 s m #[Value.ref b] below meth c s.heap [] 0 0 (lw_Z below #[Value.ref b] s) (entryFrame m ([Value.ref b] : List Value).toArray 4) := by
  obtain ⟨hx, hb, hr, hml, hown, hts0, hX, hbl, hlocks, hgv⟩ := id C0
  have hts : ∀ w ∈ lw_all, w.before #[Value.ref b] s = true := fun w h => hts0 w (lw_all_tbl h)
  have hown : s.vm.findClass RX0 = some m.cls := hown
  have hA : ∀ q : Nat, s.heap.size ≤ q → (fun q : Nat => s.heap.size ≤ q) q := fun _ h => h
  have hbA : ¬ (fun q : Nat => s.heap.size ≤ q) b := Nat.not_le.mpr hbl
  obtain ⟨c0, iS0, hKn0⟩ := u_known (C := RX1) (T := TX1) (N := 18) (n := 18) hts in_X1 (hts _ q29)
  obtain ⟨c1, iS1, hKn1⟩ := u_known (C := RX2) (T := TX2) (N := 4) (n := 4) hts in_X2 (hts _ q242)
  obtain ⟨D, hKD⟩ : ∃ D : va_G, ∀ (k : Nat) (q : vw_C), vwCl[k]? = some q → u_Kn s q.1 q.2.1 q.2.2 (D.1 k) (D.2 k) := by
    refine ⟨(fun k => if k = 0 then c0 else c1, fun k => if k = 0 then iS0 else iS1), ?_⟩
    intro k q hq
    match k, hq with
    | 0, hq => cases hq; exact hKn0
    | 1, hq => cases hq; exact hKn1
    | k + 2, hq => simp [vwCl] at hq
  have hS : va_S (fun q : Nat => s.heap.size ≤ q) s.heap s.heap [] := va_S.rf
  have hK : va_K D vwCl [] s := ⟨hKD, fun k q h => by simp at h⟩
  have hP : va_P D vwCl [] s.heap := fun k q h => by simp at h
  have hD : va_D (fun q : Nat => s.heap.size ≤ q) [] := ⟨fun i j p q h => by simp at h, fun k q h => by simp at h⟩
  have hl := lv_entry ([.ref b]) (n := 4) (Nat.le_of_ble_eq_true rfl)
  rw [lg_entry_eq]
  generalize (lg_sl ([.ref b]) ++ List.replicate (4 - (lg_sl ([.ref b])).length) Slot.unset).toArray = ls at hl ⊢
  have hl : lv_has ls 4 [(0, .ref b)] := hl
  refine va_new (ci := 0) (fs := fsX1) (C := RX1) (T := TX1) (N := 18) hx hb hts in_X1 tyX1 tyX1_ok hown (hts _ q28) (hts _ q29) (hts _ q26) hK hP hD hS hA rfl fsX1_ok (Nat.le_of_ble_eq_true rfl) (Nat.le_of_ble_eq_true rfl) dL_law_0 (fun q0v H hP hD hS => ?_)
  have hP : va_P D vwCl [(q0v, .inr (0, fsX1))] H := hP
  have hD : va_D (fun q : Nat => s.heap.size ≤ q) [(q0v, .inr (0, fsX1))] := hD
  refine lv_dup hx hb dL_law_3 rfl ?_
  refine lv_aload_n hx hb dL_law_4 rfl (lv_at hl 0 rfl) ?_
  refine lv_iconst hx hb dL_law_5 kc_i0 ?_
  refine va_calli (va_runS (As := [.ref b, .int (nI 0)]) (rest := [.ref q0v, .ref q0v]) ⟨hx, hb, hml, hown, hts⟩ (ci_cell l b L xs hL H.size) (va_cwS 2 hts (lw_S q238 q239 q25 q240) rfl rfl rfl (by decide +kernel) ⟨Nat.le_of_ble_eq_true rfl, Nat.le_of_ble_eq_true rfl⟩) ⟨fun a U g mk q => by obtain ⟨q0, q1, qX, ql⟩ := q; exact ⟨q0, q1, va_X.moved (u := U) (U := U.calling g mk a) (Vm.Alike.refl U.vm) qX, ql⟩, fun U hU hW => ⟨rfl, by rw [hU], va_X.moved hW.alike (by rw [hU]; exact hX.kept (hS.2.1 b hbl hbA)), Nat.lt_of_lt_of_le hbl hS.1⟩⟩ rfl rfl hl.1 rfl (lv_room (Nat.le_of_ble_eq_true rfl)) dL_law_6 ⟨Nat.le_of_ble_eq_true rfl, Nat.le_of_ble_eq_true rfl⟩) hS (fun q h1 h2 => absurd h2 (Nat.not_le.mpr h1)) (fun q h => Nat.le_trans hS.1 h) (fun r u t H1 locs ht hvm hw hB hz1 hk1 hS => ?_)
  have hP : va_P D vwCl ([(q0v, .inr (0, fsX1))]) H1 := hP.kept (fun k q hk => hk1 q.1 (hP k q hk).lt (Nat.not_le.mpr (hP k q hk).lt))
  generalize H1 = H at hP hS ⊢
  clear hw hB ht hvm hz1 hk1 u t
  have hFc := va_free (wc := [(q0v, .inr (0, fsX1))]) hD hS hA [0] rfl
  refine va_callv (va_runI (As := [.int r]) (rest := [.ref q0v]) ⟨hx, hb, hml, hown, hts⟩ (ci_X1 l D q0v r H.size) (cwI 1 hts (lw_meth q32) rfl rfl rfl (hts _ q26) (hts _ q30) (hts _ q31) rfl (by decide +kernel) ⟨Nat.le_of_ble_eq_true rfl, Nat.le_of_ble_eq_true rfl⟩) ⟨fun a U g mk q => by obtain ⟨q0, q1, qP, qK, qD⟩ := q; exact ⟨q0, q1, qP, va_K.moved (u := U) (U := U.calling g mk a) (Vm.Alike.refl U.vm) qK, qD⟩, fun U hU hW => ⟨rfl, by rw [hU], by rw [hU]; exact hP, va_K.moved hW.alike hK, hD.weaken (fun _ _ _ _ => trivial)⟩⟩ rfl rfl hl.1 rfl (lv_room (Nat.le_of_ble_eq_true rfl)) dL_law_9 ⟨Nat.le_of_ble_eq_true rfl, Nat.le_of_ble_eq_true rfl⟩) hS (fun q _ h => hFc q h) hFc (fun u t H1 locs ht hvm hw hB hz1 hk1 hS => ?_)
  obtain ⟨G1, σ1⟩ := u
  obtain ⟨f1, f2, st, hs1, hs8, f3⟩ := hw
  obtain ⟨hP1, hK1, hD1⟩ := hB
  have e1 : G1.1 = D := f1
  have e2 : hg_h G1 = q0v := f2
  have e3 : σ1 = ci_s st := f3
  subst e3
  have hP1 : va_P D vwCl (wl1 G1 (ci_s st)) H1 := by rw [← e1, ← ht]; exact hP1
  have hK1 : va_K D vwCl (tys1 G1) s := by rw [← e1]; exact va_K.moved hvm.symm hK1
  obtain ⟨hP, hD⟩ := va_join (wr := []) (w1 := wl1 G1 (ci_s st)) hP hD [0] [] rfl rfl (by decide) (by decide) hk1 hFc hP1 hD1
  have hP : va_P D vwCl (wl1 G1 (ci_s st)) H1 := hP
  have hD : va_D (fun q : Nat => s.heap.size ≤ q) (wl1 G1 (ci_s st)) := hD
  have hK := hK1
  generalize H1 = H at hP hS ⊢
  refine lv_astore_n (lv' := [(1, .ref q0v), (0, .ref b)]) hx hb dL_law_12 rfl hl (by decide) rfl (fun ls hl => ?_)
  refine va_new (ci := 1) (fs := fsX2) (C := RX2) (T := TX2) (N := 4) hx hb hts in_X2 tyX2 tyX2_ok hown (hts _ q241) (hts _ q242) (hts _ q27) hK hP hD hS hA rfl fsX2_ok (Nat.le_of_ble_eq_true rfl) (Nat.le_of_ble_eq_true rfl) dL_law_13 (fun q2v H hP hD hS => ?_)
  clear r
  refine lv_dup hx hb dL_law_16 rfl ?_
  refine lv_aload_n hx hb dL_law_17 rfl (lv_at hl 1 rfl) ?_
  refine lv_iconst hx hb dL_law_18 kc_i0 ?_
  refine va_calli (va_runS (As := [.ref b, .int (nI 0)]) (rest := [.ref q2v, .ref q2v]) ⟨hx, hb, hml, hown, hts⟩ (ci_cell l b L xs hL H.size) (va_cwS 2 hts (lw_S q238 q239 q25 q240) rfl rfl rfl (by decide +kernel) ⟨Nat.le_of_ble_eq_true rfl, Nat.le_of_ble_eq_true rfl⟩) ⟨fun a U g mk q => by obtain ⟨q0, q1, qX, ql⟩ := q; exact ⟨q0, q1, va_X.moved (u := U) (U := U.calling g mk a) (Vm.Alike.refl U.vm) qX, ql⟩, fun U hU hW => ⟨rfl, by rw [hU], va_X.moved hW.alike (by rw [hU]; exact hX.kept (hS.2.1 b hbl hbA)), Nat.lt_of_lt_of_le hbl hS.1⟩⟩ rfl rfl hl.1 rfl (lv_room (Nat.le_of_ble_eq_true rfl)) dL_law_19 ⟨Nat.le_of_ble_eq_true rfl, Nat.le_of_ble_eq_true rfl⟩) hS (fun q h1 h2 => absurd h2 (Nat.not_le.mpr h1)) (fun q h => Nat.le_trans hS.1 h) (fun r u t H1 locs ht hvm hw hB hz1 hk1 hS => ?_)
  have hP : va_P D vwCl (wl1 G1 (ci_s st) ++ [(q2v, .inr (1, fsX2))]) H1 := hP.kept (fun k q hk => hk1 q.1 (hP k q hk).lt (Nat.not_le.mpr (hP k q hk).lt))
  generalize H1 = H at hP hS ⊢
  clear hw hB ht hvm hz1 hk1 u t
  have hPc : va_P D vwCl [(q2v, .inr (1, fsX2))] H := hP.sub [13] rfl
  have hDc : va_D (fun q : Nat => s.heap.size ≤ q) [(q2v, .inr (1, fsX2))] := hD.sub [13] (by decide) rfl
  have hKc : va_K D vwCl [] s := hK.sub [] rfl
  have hFc := va_free (wc := [(q2v, .inr (1, fsX2))]) hD hS hA [13] rfl
  refine va_callv (va_runI (As := [.int r]) (rest := [.ref q2v]) ⟨hx, hb, hml, hown, hts⟩ (ci_X2 l D q2v r H.size) (cwI 1 hts (lw_meth q245) rfl rfl rfl (hts _ q27) (hts _ q243) (hts _ q244) rfl (by decide +kernel) ⟨Nat.le_of_ble_eq_true rfl, Nat.le_of_ble_eq_true rfl⟩) ⟨fun a U g mk q => by obtain ⟨q0, q1, qP, qK, qD⟩ := q; exact ⟨q0, q1, qP, va_K.moved (u := U) (U := U.calling g mk a) (Vm.Alike.refl U.vm) qK, qD⟩, fun U hU hW => ⟨rfl, by rw [hU], by rw [hU]; exact hPc, va_K.moved hW.alike hKc, hDc.weaken (fun _ _ _ _ => trivial)⟩⟩ rfl rfl hl.1 rfl (lv_room (Nat.le_of_ble_eq_true rfl)) dL_law_22 ⟨Nat.le_of_ble_eq_true rfl, Nat.le_of_ble_eq_true rfl⟩) hS (fun q _ h => hFc q h) hFc (fun u t H1 locs ht hvm hw hB hz1 hk1 hS => ?_)
  obtain ⟨G2, τ1⟩ := u
  obtain ⟨f3, f4, f5⟩ := hw
  obtain ⟨hP1, hK1, hD1⟩ := hB
  have e3 : G2.1 = D := f3
  have e4 : hg_h G2 = q2v := f4
  have e5 : τ1 = ci_m := f5
  subst e5
  have hP1 : va_P D vwCl (wl2 G2 ci_m) H1 := by rw [← e3, ← ht]; exact hP1
  have hK1 : va_K D vwCl (tys2 G2) s := by rw [← e3]; exact va_K.moved hvm.symm hK1
  obtain ⟨hP, hD⟩ := va_join (wr := wl1 G1 (ci_s st)) (w1 := wl2 G2 ci_m) hP hD [13] [0, 1, 2, 3, 4, 5, 6, 7, 8, 9, 10, 11, 12] rfl rfl (by decide) (by decide) hk1 hFc hP1 hD1
  have hK : va_K D vwCl (tys1 G1 ++ tys2 G2) s := hK.app hK1
  generalize H1 = H at hP hS ⊢
  refine lv_astore_n (lv' := [(2, .ref q2v), (1, .ref q0v), (0, .ref b)]) hx hb dL_law_25 rfl hl (by decide) rfl (fun ls hl => ?_)
  refine lv_iconst hx hb dL_law_26 kc_i1 ?_
  refine lv_istore_n (lv' := [(3, .int (nI 1)), (2, .ref q2v), (1, .ref q0v), (0, .ref b)]) hx hb dL_law_27 rfl hl (by decide) rfl (fun ls hl => ?_)
  refine W.widen (k := 18) (n := 1006) (Nat.le_of_ble_eq_true rfl) (Nat.le_of_ble_eq_true rfl) ?_
  have hl : lv_has ls 4 [(0, .ref b), (1, .ref (hg_h G1)), (2, .ref (hg_h G2)), (3, .int (nI 1))] := by rw [e2, e4]; exact lv_sub hl [3, 2, 1, 0] rfl
  have hP : va_P G1.1 vwCl (wl1 G1 (ci_s st) ++ wl2 G2 ci_m) H := by rw [e1]; exact hP
  have hK : va_K G1.1 vwCl (tys1 G1 ++ tys2 G2) s := by rw [e1]; exact hK
  have hG : G2.1 = G1.1 := e3.trans e1.symm
  obtain ⟨X, eX⟩ : ∃ X : hx_X, X = (p, l, e, s, m, #[Value.ref b], below, meth, c, 18, 1006, lw_Z below #[Value.ref b] s, (fun q : Nat => s.heap.size ≤ q)) := ⟨_, rfl⟩
  have F : hx_F X mL (V12 G1 G2) := by
    rw [eX]
    exact ⟨hx, hb, hml, hown, hts, hr, hlocks, hK, hA, ⟨Nat.le_of_ble_eq_true rfl, Nat.le_of_ble_eq_true rfl⟩⟩
  have Kend : ∀ u lv, hx_W X mL (V12 G1 G2) u 498 lv [] := by
    rw [eX]
    intro u lv H locs ls hP hD hS hl
    refine lv_iconst (v := 1) hx hb dL_law_498 (by decide) ?_
    refine va_forget (fun q hq => hS.2.2 q hq) ?_
    refine W.widen (k := 600000) (n := 7290000) (Nat.le_of_ble_eq_true rfl) (Nat.le_of_ble_eq_true rfl) ?_
    exact lw_ret hx hb hr hlocks dL_law_499
  have key : hx_W X mL (V12 G1 G2) (ci_s st, ci_m) 28 [(0, .ref b), (1, .ref (hg_h G1)), (2, .ref (hg_h G2)), (3, .int (nI 1))] [] := by
    by_cases h4 : 4 ≤ L
    · exact ll_loop F hG (by rw [eX]; exact hX) (by rw [eX]; exact hbl) (by rw [eX]; exact hbA) hL h4 Kend (L + 1) 1 _ _ (by omega) (by omega) (sim_init hs1 hs8)
    · exact ll_short F (by rw [eX]; exact hX) (by rw [eX]; exact hbl) (by rw [eX]; exact hbA) (by omega) Kend _
  rw [eX] at key
  exact key H locs ls hP hD hS hl
end
section
set_option maxRecDepth 100000
set_option maxHeartbeats 4000000 in
theorem lw_walk (l : Launch) (b : Addr) (xs : List Int32) : MetFree l x (headSpec (Jvm.Cond.code x code maxLocals ret :: tables_1) room_1) (lw_P b xs) (fun _ _ _ _ _ => True) lw_Q := by
  refine MetFree.of_bodyS (code := code) (maxLocals := maxLocals) (ret := ret) (by decide) ?_ ?_
  · intro args s m h hn
    obtain ⟨meth, c, h1, h2, h3, h4, h5, h6, -, -⟩ := Cond.code_spec hn (atoms_spec (ws := Jvm.Cond.code x code maxLocals ret :: tables_1) h _ List.mem_cons_self)
    exact ⟨meth, c, h1, h2, h3, h4, h5, h6⟩
  · intro p e s m args below meth c s₁ B hml0 hP _
    obtain ⟨rfl, hx, hbd, hgv⟩ := hP
    obtain ⟨scr, harrAt, hlist, hof, hsmall⟩ := hx
    obtain ⟨hcb, hkn, -, -⟩ := State.arrayAt?_spec harrAt
    have hown : s.vm.findClass R_law = some m.cls := findClass_of_methodNamed B.named
    have hts0 : ∀ c ∈ (Jvm.Cond.code x code maxLocals ret :: tables_1), c.before #[Value.ref b] s = true := atoms_spec (ws := Jvm.Cond.code x code maxLocals ret :: tables_1) B.pre
    have hts : ∀ w ∈ lw_tbl, w.before #[Value.ref b] s = true := k2_hts_sels lw_privs (fun w hw => hts0 w (List.mem_cons_of_mem _ hw)) lw_privs_ok
    have hml : c.maxLocals = 4 := B.maxLocals_eq (hts0 _ List.mem_cons_self)
    have X₀ : Stand p l e room_1 s m #[Value.ref b] below meth c s₁ [] 0 0 := Stand.of_body B
    have hh0 : s₁.heap = s.heap := by rw [B.state]; rfl
    have hsz : scr.slots.size = xs.length := by rw [← Array.length_toList, hlist, List.length_map]
    have hval : ∀ j : Nat, j < xs.length → scr.slots[j]? = some (.int (xs.getD j 0)) := fun j hj => by
      rw [← Array.getElem?_toList, hlist]
      simp [hj]
    have hbl : b < s.heap.size := (Array.getElem?_eq_some_iff.mp hcb).1
    have hX : va_X b xs.length (fun j => xs.getD j 0) s s.heap := ⟨scr, hcb, hof, hkn, hsz, hval⟩
    have K : W p l e room_1 s m #[Value.ref b] below meth c s₁.heap [] 0 0 (lw_Z below #[Value.ref b] s) (entryFrame m ([Value.ref b] : List Value).toArray 4) := by
      rw [hh0]
      exact whole_start l hbd ⟨B.exec, B.bytes, B.returns, hml, hown, hts, hX, hbl, B.notSynchronized, hgv⟩
    obtain ⟨t, a1, o, b1, b2, b3⟩ := K s₁ rfl X₀
    exact ⟨t, o, a1, b1, b2, b3⟩
theorem lw_pre_spec {args : Array Value} {s : State} (h : (Jvm.Cond.and given_1 narrow_1).before args s = true) (hr : rest_1_c.before args s = true) : ∃ (b : Addr) (xs : List Int32), lw_P b xs args s := by
  have hs := flat_of_before _ h
  have hq := flat_of_before _ hr
  have hc : (Cond.count 1).before args s = true := hs _ (by decide +kernel)
  have harr : (Cond.arrayOf (.arg 0) .int).before args s = true := hs _ (by decide +kernel)
  have hle : (Cond.le (.length (.arg 0)) (.int 257)).before args s = true := hs _ (by decide +kernel)
  have hlen : (Cond.isInt (.length (.arg 0))).before args s = true := hq _ (by decide +kernel)
  have hall : (Cond.all (.arg 0) (.isInt (.elem (.arg 0) (.index 0)))).before args s = true := hq _ (by decide +kernel)
  obtain ⟨b, xs, hb, hx⟩ := State.ints_of_pre rfl harr hlen hall
  have hsm : xs.length < 2 ^ 31 := hx.choose_spec.2.2.2
  have hev : (Term.length (.arg 0)).eval args s none [] s = some (.int xs.length.toInt32) := hx.length_eval hb
  have hv := Cond.le_ints hev (show (Term.int 257).eval args s none [] s = some (.int 257) from rfl)
  have hd : xs.length.toInt32 ≤ 257 := by
    simpa [Cond.before, Cond.holds, hv] using hle
  have hN : xs.length ≤ 257 := (Int32.ofNat_le_ofNat hsm (by decide)).mp (show Int32.ofNat xs.length ≤ Int32.ofNat 257 from hd)
  exact ⟨b, xs, Cond.one_arg hc (show args[0]? = some (.ref b) from hb), hx, hN, h⟩
theorem lw_comes (l : Launch) : Comes l x (Jvm.Cond.code x code maxLocals ret :: tables_1) room_1 (fun tb e args s => Calls_1 tb e args s ∧ rest_1 tb e args s ∧ Pre_1 tb e args s)
    (fun _ _ args s o t => lw_Q args s o t) := by
  intro p e ha hc hk s m args below hf hfit hheap happ hpre
  obtain ⟨b, xs, hP⟩ := lw_pre_spec hpre.2.2 hpre.2.1
  obtain ⟨k, o, h1, h2, h3, hQ⟩ := lw_walk l b xs p e ha hc hk s m args below hf ((Spec.applies_iff_loose hf).mp happ).1 hP trivial
  exact ⟨k, o, h1, h2, h3, hQ⟩
theorem lw_frame {s t : State} {o : Outcome} {args : Array Value} (h : Framed s o t [] 600000 7290000) :
    Framed s o t (fieldLocs frame_1_writes args s ++ arrayLocs frame_1_arrays args s ++ staticLocs frame_1_statics s) 600000 7290000 := h
theorem lw_limb (L : Cond) (hL : ∀ (args : Array Value) (s t : State), L.after args s (.returned (some (.int 1))) t = true) :
    ArmFor flags0 classFile x code maxLocals ret World_1 tables_1 room_1 Calls_1 rest_1 Pre_1
      (fun tb e a s o t => postC L tb e a s o t ∧ Framed s o t (fieldLocs frame_1_writes a s ++ arrayLocs frame_1_arrays a s ++ staticLocs frame_1_statics s) 600000 7290000) := by
  intro l _ _ _ p e ha hc hk s m args below hf hfit hheap happ hpre
  obtain ⟨k, o, h1, h2, h3, rfl, hF⟩ := lw_comes l p e ha hc hk s m args below hf hfit hheap happ hpre
  exact ⟨k, _, h1, h2, h3, hL args s _, lw_frame hF⟩
theorem i_vc : Claimed_1_1 ∧ Claimed_1_2 := ⟨lw_limb limb_1_1 (fun args s t => by simp [limb_1_1, Cond.after, Cond.holds, Cond.value]), lw_limb limb_1_2 (fun args s t => Cond.after_iff.mpr (by
  first | (rw [show limb_1_2 = Cond.eq .result (.int 1) from rfl, Cond.eq_ints (x := 1) (y := 1) rfl rfl]; simp; done) | (simp [limb_1_2, Cond.value, Term.eval]; done)))⟩
end
